section
/-! sums over the first n places, cuts, reach: no program in sight -/
def cl_sm (f : Nat → Nat) : Nat → Nat
  | 0 => 0
  | n + 1 => cl_sm f n + f n
theorem cl_sm_eq {f g : Nat → Nat} {n : Nat} (h : ∀ k, k < n → f k = g k) : cl_sm f n = cl_sm g n := by
  induction n with
  | zero => rfl
  | succ n ih =>
    show cl_sm f n + f n = cl_sm g n + g n
    rw [ih (fun k hk => h k (by omega)), h n (by omega)]
theorem cl_sm_le {f g : Nat → Nat} {n : Nat} (h : ∀ k, k < n → f k ≤ g k) : cl_sm f n ≤ cl_sm g n := by
  induction n with
  | zero => exact Nat.le_refl _
  | succ n ih =>
    show cl_sm f n + f n ≤ cl_sm g n + g n
    have h1 := ih (fun k hk => h k (by omega))
    have h2 := h n (by omega)
    omega
theorem cl_sm_bd {f : Nat → Nat} {n b : Nat} (h : ∀ k, k < n → f k ≤ b) : cl_sm f n ≤ n * b := by
  induction n with
  | zero => exact Nat.zero_le _
  | succ n ih =>
    show cl_sm f n + f n ≤ (n + 1) * b
    have h1 := ih (fun k hk => h k (by omega))
    have h2 := h n (by omega)
    rw [Nat.succ_mul]
    omega
theorem cl_sm_0 {f : Nat → Nat} {n : Nat} (h : ∀ k, k < n → f k = 0) : cl_sm f n = 0 := by
  induction n with
  | zero => rfl
  | succ n ih =>
    show cl_sm f n + f n = 0
    rw [ih (fun k hk => h k (by omega)), h n (by omega)]
theorem cl_sm_get {f : Nat → Nat} {n k : Nat} (hk : k < n) : f k ≤ cl_sm f n := by
  induction n with
  | zero => omega
  | succ n ih =>
    show f k ≤ cl_sm f n + f n
    by_cases e : k = n
    · rw [e]; omega
    · have := ih (by omega)
      omega
theorem cl_sm_one {f g : Nat → Nat} {n i : Nat} (hi : i < n) (h : ∀ k, k < n → k ≠ i → f k = g k) : cl_sm f n + g i = cl_sm g n + f i := by
  induction n with
  | zero => omega
  | succ n ih =>
    show cl_sm f n + f n + g i = cl_sm g n + g n + f i
    by_cases e : i = n
    · have h1 : cl_sm f n = cl_sm g n := cl_sm_eq (fun k hk => h k (by omega) (by omega))
      rw [e, h1]; omega
    · have h1 := ih (by omega) (fun k hk hn => h k (by omega) hn)
      have h2 := h n (by omega) (by omega)
      omega

/-- a place of a table written anew -/
def cl_u (g : Nat → Nat) (k v : Nat) : Nat → Nat := fun j => if j = k then v else g j
theorem cl_u_s {g : Nat → Nat} {k v : Nat} : cl_u g k v k = v := if_pos rfl
theorem cl_u_n {g : Nat → Nat} {k v j : Nat} (h : j ≠ k) : cl_u g k v j = g j := if_neg h

/-- what the line k adds to the cut S, and the cut's worth -/
def cl_c (g : Nat → Nat) (S : Nat → Bool) (k : Nat) : Nat := if S (k / 11) = true ∧ S (k % 11) = false then g k else 0
def cl_C (g : Nat → Nat) (S : Nat → Bool) : Nat := cl_sm (cl_c g S) 121
theorem cl_c_at {g : Nat → Nat} {S : Nat → Bool} {x y : Nat} (hy : y < 11) : cl_c g S (11 * x + y) = if S x = true ∧ S y = false then g (11 * x + y) else 0 := by
  unfold cl_c
  rw [show (11 * x + y) / 11 = x by omega, show (11 * x + y) % 11 = y by omega]
theorem cl_C_set {g : Nat → Nat} {S : Nat → Bool} {x y v : Nat} (hx : x < 11) (hy : y < 11) :
    cl_C (cl_u g (11 * x + y) v) S + (if S x = true ∧ S y = false then g (11 * x + y) else 0) = cl_C g S + (if S x = true ∧ S y = false then v else 0) := by
  have h := cl_sm_one (f := cl_c (cl_u g (11 * x + y) v) S) (g := cl_c g S) (n := 121) (i := 11 * x + y) (by omega) (fun k _ hn => by
    unfold cl_c
    rw [cl_u_n hn])
  rw [cl_c_at hy, cl_c_at hy, cl_u_s] at h
  exact h
theorem cl_C_in {g : Nat → Nat} {S : Nat → Bool} {x y v : Nat} (hx : x < 11) (hy : y < 11) (h1 : S x = true) (h2 : S y = false) :
    cl_C (cl_u g (11 * x + y) v) S + g (11 * x + y) = cl_C g S + v := by
  have h := cl_C_set (g := g) (S := S) (v := v) hx hy
  rw [if_pos ⟨h1, h2⟩, if_pos ⟨h1, h2⟩] at h
  exact h
theorem cl_C_out {g : Nat → Nat} {S : Nat → Bool} {x y v : Nat} (hx : x < 11) (hy : y < 11) (h1 : ¬ (S x = true ∧ S y = false)) :
    cl_C (cl_u g (11 * x + y) v) S = cl_C g S := by
  have h := cl_C_set (g := g) (S := S) (v := v) hx hy
  rw [if_neg h1, if_neg h1] at h
  exact h
theorem cl_C_mono {g h : Nat → Nat} {S : Nat → Bool} (hh : ∀ k, k < 121 → g k ≤ h k) : cl_C g S ≤ cl_C h S := by
  refine cl_sm_le (fun k hk => ?_)
  unfold cl_c
  split
  · exact hh k hk
  · exact Nat.le_refl _
theorem cl_C_bd {g : Nat → Nat} {S : Nat → Bool} {b : Nat} (hh : ∀ k, k < 121 → g k ≤ b) : cl_C g S ≤ 121 * b := by
  refine cl_sm_bd (fun k hk => ?_)
  unfold cl_c
  split
  · exact hh k hk
  · exact Nat.zero_le _
theorem cl_C_get {g : Nat → Nat} {S : Nat → Bool} {x y : Nat} (hx : x < 11) (hy : y < 11) (h1 : S x = true) (h2 : S y = false) : g (11 * x + y) ≤ cl_C g S := by
  have h := cl_sm_get (f := cl_c g S) (n := 121) (k := 11 * x + y) (by omega)
  rw [cl_c_at hy, if_pos ⟨h1, h2⟩] at h
  exact h
/-- flow sent over one line: the cut's worth moves with the ends -/
def cl_a (g : Nat → Nat) (u a f : Nat) : Nat → Nat := cl_u (cl_u g (11 * u + a) (g (11 * u + a) - f)) (11 * a + u) (cl_u g (11 * u + a) (g (11 * u + a) - f) (11 * a + u) + f)
theorem cl_C_a {g : Nat → Nat} {S : Nat → Bool} {u a f : Nat} (hu : u < 11) (ha : a < 11) (hua : u ≠ a) (hf : f ≤ g (11 * u + a)) :
    cl_C (cl_a g u a f) S + (if S u = true then f else 0) = cl_C g S + (if S a = true then f else 0) := by
  unfold cl_a
  have e : cl_u g (11 * u + a) (g (11 * u + a) - f) (11 * a + u) = g (11 * a + u) := cl_u_n (by omega)
  have h1 := cl_C_set (g := g) (S := S) (v := g (11 * u + a) - f) hu ha
  have h2 := cl_C_set (g := cl_u g (11 * u + a) (g (11 * u + a) - f)) (S := S) (v := cl_u g (11 * u + a) (g (11 * u + a) - f) (11 * a + u) + f) ha hu
  rw [e] at h2 ⊢
  cases hSu : S u <;> cases hSa : S a <;> simp [hSu, hSa] at h1 h2 ⊢ <;> omega
theorem cl_a_1 {g : Nat → Nat} {u a f : Nat} (hu : u < 11) (ha : a < 11) (hua : u ≠ a) : cl_a g u a f (11 * u + a) = g (11 * u + a) - f := by
  unfold cl_a
  rw [cl_u_n (by omega), cl_u_s]
theorem cl_a_2 {g : Nat → Nat} {u a f : Nat} (hu : u < 11) (ha : a < 11) (hua : u ≠ a) : cl_a g u a f (11 * a + u) = g (11 * a + u) + f := by
  unfold cl_a
  rw [cl_u_s, cl_u_n (by omega)]
theorem cl_a_n {g : Nat → Nat} {u a f k : Nat} (h1 : k ≠ 11 * u + a) (h2 : k ≠ 11 * a + u) : cl_a g u a f k = g k := by
  unfold cl_a
  rw [cl_u_n h2, cl_u_n h1]
/-- the two lines between two points hold together what they held -/
theorem cl_a_p {g : Nat → Nat} {u a f x y : Nat} (hu : u < 11) (ha : a < 11) (hua : u ≠ a) (hf : f ≤ g (11 * u + a)) (hx : x < 11) (hy : y < 11) :
    cl_a g u a f (11 * x + y) + cl_a g u a f (11 * y + x) = g (11 * x + y) + g (11 * y + x) := by
  by_cases e1 : x = u ∧ y = a
  · rw [e1.1, e1.2, cl_a_1 hu ha hua, cl_a_2 hu ha hua]
    omega
  · by_cases e2 : x = a ∧ y = u
    · rw [e2.1, e2.2, cl_a_1 hu ha hua, cl_a_2 hu ha hua]
      omega
    · rw [cl_a_n (by omega) (by omega), cl_a_n (by omega) (by omega)]

/-- what can be reached over lines with room -/
def cl_R (g : Nat → Nat) (u v : Nat) : Prop := ∀ X : Nat → Prop, X u → (∀ x y, x < 11 → y < 11 → X x → 0 < g (11 * x + y) → X y) → X v
theorem cl_R_refl (g : Nat → Nat) (u : Nat) : cl_R g u u := fun _ h _ => h
theorem cl_R_trans {g : Nat → Nat} {u v w : Nat} (h1 : cl_R g u v) (h2 : cl_R g v w) : cl_R g u w := fun X hu hc => h2 X (h1 X hu hc) hc
theorem cl_R_step {g : Nat → Nat} {u v : Nat} (hu : u < 11) (hv : v < 11) (h : 0 < g (11 * u + v)) : cl_R g u v := fun _ hX hc => hc u v hu hv hX h
/-- a closed side has a cut of worth 0 -/
theorem cl_C_0 {g : Nat → Nat} {S : Nat → Bool} (h : ∀ x y, x < 11 → y < 11 → S x = true → 0 < g (11 * x + y) → S y = true) : cl_C g S = 0 := by
  refine cl_sm_0 (fun k hk => ?_)
  unfold cl_c
  split
  · rename_i hS
    rcases Nat.eq_zero_or_pos (g k) with z | z
    · exact z
    · have t := h (k / 11) (k % 11) (by omega) (by omega) hS.1 (by rw [show 11 * (k / 11) + k % 11 = k by omega]; exact z)
      rw [hS.2] at t
      exact absurd t (by decide)
  · rfl
/-- a way over the cut gives it worth -/
theorem cl_C_pos {g : Nat → Nat} {S : Nat → Bool} {u v : Nat} (hR : cl_R g u v) (hu : S u = true) (hv : S v = false) : 0 < cl_C g S := by
  rcases Nat.eq_zero_or_pos (cl_C g S) with z | z
  · have t : S v = true := hR (fun x => S x = true) hu (fun x y hx hy hS hg => by
      cases hy2 : S y
      · have := cl_C_get (g := g) hx hy hS hy2
        omega
      · rfl)
    rw [hv] at t
    exact absurd t (by decide)
  · exact z
/-- the side of a set of points -/
noncomputable def cl_D (P : Nat → Prop) (v : Nat) : Bool := @decide (P v) (Classical.propDecidable (P v))
theorem cl_D_t {P : Nat → Prop} {v : Nat} : cl_D P v = true ↔ P v := by
  unfold cl_D
  exact @decide_eq_true_iff (P v) (Classical.propDecidable (P v))
theorem cl_D_f {P : Nat → Prop} {v : Nat} : cl_D P v = false ↔ ¬ P v := by
  unfold cl_D
  exact @decide_eq_false_iff_not (P v) (Classical.propDecidable (P v))

/-- a flow of worth t in the network g0, g what is left -/
def cl_F (g0 g : Nat → Nat) (t : Nat) : Prop := ∀ S : Nat → Bool, S 9 = true → S 10 = false → cl_C g S + t = cl_C g0 S
theorem cl_F_le {g0 g : Nat → Nat} {t : Nat} (h : cl_F g0 g t) {S : Nat → Bool} (h9 : S 9 = true) (h10 : S 10 = false) : t ≤ cl_C g0 S := by
  have := h S h9 h10
  omega
/-- the points reached from the zero end, and the points from which the one end isn't reached: least cuts -/
theorem cl_up {g0 g : Nat → Nat} {t : Nat} (h : cl_F g0 g t) (hR : ¬ cl_R g 9 10) :
    cl_D (cl_R g 9) 9 = true ∧ cl_D (cl_R g 9) 10 = false ∧ cl_C g0 (cl_D (cl_R g 9)) = t := by
  have h9 : cl_D (cl_R g 9) 9 = true := cl_D_t.mpr (cl_R_refl g 9)
  have h10 : cl_D (cl_R g 9) 10 = false := cl_D_f.mpr hR
  refine ⟨h9, h10, ?_⟩
  have hz : cl_C g (cl_D (cl_R g 9)) = 0 := cl_C_0 (fun x y hx hy hS hg => cl_D_t.mpr (cl_R_trans (cl_D_t.mp hS) (cl_R_step hx hy hg)))
  have := h _ h9 h10
  omega
theorem cl_lo {g0 g : Nat → Nat} {t : Nat} (h : cl_F g0 g t) (hR : ¬ cl_R g 9 10) :
    cl_D (fun v => ¬ cl_R g v 10) 9 = true ∧ cl_D (fun v => ¬ cl_R g v 10) 10 = false ∧ cl_C g0 (cl_D (fun v => ¬ cl_R g v 10)) = t := by
  have h9 : cl_D (fun v => ¬ cl_R g v 10) 9 = true := cl_D_t.mpr hR
  have h10 : cl_D (fun v => ¬ cl_R g v 10) 10 = false := cl_D_f.mpr (fun z => z (cl_R_refl g 10))
  refine ⟨h9, h10, ?_⟩
  have hz : cl_C g (cl_D (fun v => ¬ cl_R g v 10)) = 0 := cl_C_0 (fun x y hx hy hS hg => cl_D_t.mpr (fun hy10 => (cl_D_t.mp hS) (cl_R_trans (cl_R_step hx hy hg) hy10)))
  have := h _ h9 h10
  omega
/-- the cut's worth rests on the eleven points alone -/
theorem cl_C_ext {g : Nat → Nat} {S T : Nat → Bool} (h : ∀ v, v < 11 → S v = T v) : cl_C g S = cl_C g T := by
  refine cl_sm_eq (fun k hk => ?_)
  unfold cl_c
  rw [h (k / 11) (by omega), h (k % 11) (by omega)]
end
section
/-! the search: which points are reached, in which order, from where -/
/-- an array holds a table of naturals -/
def cl_G (a : Nat → Int32) (g : Nat → Nat) : Prop := ∀ k, k < 121 → a k = nI (g k)
def cl_b (g : Nat → Nat) (b : Nat) : Prop := ∀ k, k < 121 → g k ≤ b
theorem cl_G_u {a : Nat → Int32} {g : Nat → Nat} {j k v : Nat} {x : Int32} (h : cl_G a g) (hj : j = k) (hx : x = nI v) : cl_G (upd a j x) (cl_u g k v) := by
  subst hj hx
  intro i hi
  by_cases e : i = j
  · rw [e, pk_us, cl_u_s]
  · rw [pk_un e, cl_u_n e]
    exact h i hi
theorem cl_ix (x y : Nat) : (11 : Int32) * nI x + nI y = nI (11 * x + y) := by
  rw [show (11 : Int32) = nI 11 from rfl, pk_mul, nI_add]

def cl_T (g : Nat → Nat) (s qe : Nat) (R : Nat → Bool) (P Q o : Nat → Nat) (a9 a10 : Nat → Int32) : Prop :=
  cl_sm (fun v => if R v = true then 1 else 0) 11 = qe ∧
  (∀ v, v < 11 → (R v = true → a9 v = nI (P v)) ∧ (R v = false → a9 v = -1)) ∧
  (∀ j, j < qe → a10 j = nI (Q j) ∧ Q j < 11 ∧ R (Q j) = true ∧ o (Q j) = j) ∧
  (∀ v, v < 11 → R v = true → o v < qe ∧ Q (o v) = v) ∧
  R s = true ∧ P s = s ∧
  (∀ v, v < 11 → R v = true → v ≠ s → P v < 11 ∧ R (P v) = true ∧ 0 < g (11 * P v + v) ∧ o (P v) < o v)
theorem cl_T_le {g : Nat → Nat} {s qe : Nat} {R : Nat → Bool} {P Q o : Nat → Nat} {a9 a10 : Nat → Int32} (hT : cl_T g s qe R P Q o a9 a10) : qe ≤ 11 := by
  have h := cl_sm_bd (f := fun v => if R v = true then 1 else 0) (n := 11) (b := 1) (fun k _ => by
    split <;> omega)
  have := hT.1
  omega
theorem cl_T_one : ∀ s, s < 11 → cl_sm (fun v => if decide (v = s) = true then 1 else 0) 11 = 1 := by decide
theorem cl_T_0 {g : Nat → Nat} {s : Nat} {a9 a10 : Nat → Int32} (hs : s < 11) (h : ∀ v, v < 11 → a9 v = -1) :
    cl_T g s 1 (fun v => decide (v = s)) (fun _ => s) (fun _ => s) (fun _ => 0) (upd a9 s (nI s)) (upd a10 0 (nI s)) := by
  refine ⟨cl_T_one s hs, fun v hv => ⟨fun hR => ?_, fun hR => ?_⟩, fun j hj => ⟨?_, hs, by simp, by show 0 = j; omega⟩, fun v hv hR => ⟨by show 0 < 1; omega, (of_decide_eq_true hR).symm⟩, by simp, rfl, fun v hv hR hn => absurd (of_decide_eq_true hR) hn⟩
  · rw [of_decide_eq_true hR, pk_us]
  · rw [pk_un (of_decide_eq_false hR)]
    exact h v hv
  · rw [show j = 0 by omega, pk_us]
theorem cl_T_add {g : Nat → Nat} {s qe k i : Nat} {R : Nat → Bool} {P Q o : Nat → Nat} {a9 a10 : Nat → Int32} (hT : cl_T g s qe R P Q o a9 a10) (hk : k < qe) (hi : i < 11) (hR : R i = false) (hg : 0 < g (11 * Q k + i)) :
    cl_T g s (qe + 1) (fun v => if v = i then true else R v) (cl_u P i (Q k)) (cl_u Q qe i) (cl_u o i qe) (upd a9 i (nI (Q k))) (upd a10 qe (nI i)) := by
  obtain ⟨h1, h2, h3, h4, h5, h6, h7⟩ := hT
  have ne : ∀ v, R v = true → v ≠ i := fun v hv e => by
    rw [e, hR] at hv
    exact absurd hv (by decide)
  refine ⟨?_, fun v hv => ?_, fun j hj => ?_, fun v hv hv2 => ?_, ?_, ?_, fun v hv hv2 hn => ?_⟩
  · have h := cl_sm_one (f := fun v => if (if v = i then true else R v) = true then 1 else 0) (g := fun v => if R v = true then 1 else 0) (n := 11) (i := i) hi (fun j _ hn => by
      rw [if_neg hn])
    rw [if_neg (by rw [hR]; decide), if_pos (by rw [if_pos rfl]), h1] at h
    omega
  · by_cases e : v = i
    · subst e
      refine ⟨fun _ => by rw [pk_us, cl_u_s], fun z => ?_⟩
      dsimp only at z
      rw [if_pos rfl] at z
      exact absurd z (by decide)
    · dsimp only
      rw [if_neg e, pk_un e, cl_u_n e]
      exact h2 v hv
  · by_cases e : j = qe
    · subst e
      rw [pk_us, cl_u_s, cl_u_s]
      exact ⟨rfl, hi, by simp, rfl⟩
    · obtain ⟨t1, t2, t3, t4⟩ := h3 j (by omega)
      have t5 := ne _ t3
      rw [pk_un e, cl_u_n e, cl_u_n t5]
      dsimp only
      rw [if_neg t5]
      exact ⟨t1, t2, t3, t4⟩
  · by_cases e : v = i
    · subst e
      rw [cl_u_s, cl_u_s]
      exact ⟨by omega, rfl⟩
    · dsimp only at hv2
      rw [if_neg e] at hv2
      obtain ⟨t1, t2⟩ := h4 v hv hv2
      rw [cl_u_n e, cl_u_n (by omega)]
      exact ⟨by omega, t2⟩
  · dsimp only
    rw [if_neg (ne s h5)]
    exact h5
  · rw [cl_u_n (ne s h5)]
    exact h6
  · by_cases e : v = i
    · subst e
      obtain ⟨t1, t2, t3, t4⟩ := h3 k hk
      have t5 := ne _ t3
      rw [cl_u_s, cl_u_s, cl_u_n t5]
      dsimp only
      rw [if_neg t5]
      exact ⟨t2, t3, hg, by omega⟩
    · dsimp only at hv2
      rw [if_neg e] at hv2
      obtain ⟨t1, t2, t3, t4⟩ := h7 v hv hv2 hn
      have t5 := ne _ t2
      rw [cl_u_n e, cl_u_n t5, cl_u_n e]
      dsimp only
      rw [if_neg t5]
      exact ⟨t1, t2, t3, t4⟩

/-- the search's inner loop over the points p -/
theorem cl_s58 {post : St1 → Prop} {J : Int32 → Int32 → (Nat → Int32) → (Nat → Int32) → (Nat → Int32) → (Nat → Int32) → (Nat → Int32) → (Nat → Int32) → (Nat → Int32) → (Nat → Int32) → (Nat → Int32) → (Nat → Int32) → Prop}
    {a1 a2 a3 a4 a5 a6 a7 a8 a9 a10 : Nat → Int32} {g : Nat → Nat} {b s k qe : Nat} {R : Nat → Bool} {P Q o : Nat → Nat} (hG : cl_G a8 g) (hb : cl_b g b) (hb2 : b < 2 ^ 31) (hk : k < 11) (hkq : k < qe)
    (hT : cl_T g s qe R P Q o a9 a10) (hL : ∀ j, j < k → ∀ v, v < 11 → 0 < g (11 * Q j + v) → R v = true)
    (H : ∀ (qe' : Nat) (R' : Nat → Bool) (P' Q' o' : Nat → Nat) (a9' a10' : Nat → Int32), cl_T g s qe' R' P' Q' o' a9' a10' → (∀ j, j < k + 1 → ∀ v, v < 11 → 0 < g (11 * Q' j + v) → R' v = true) → J (nI (k + 1)) (nI qe') a1 a2 a3 a4 a5 a6 a7 a8 a9' a10') :
    ∃ n, wX_search_58 post J (nI k) n 0 (nI qe) a1 a2 a3 a4 a5 a6 a7 a8 a9 a10 := by
  refine pk_loop (σ := Int32 × (Nat → Int32) × (Nat → Int32)) (fun n i st => wX_search_58 post J (nI k) n (nI i) st.1 a1 a2 a3 a4 a5 a6 a7 a8 st.2.1 st.2.2)
    (fun i st => ∃ (qe : Nat) (R : Nat → Bool) (P Q o : Nat → Nat), k < qe ∧ st.1 = nI qe ∧ cl_T g s qe R P Q o st.2.1 st.2.2 ∧ (∀ j, j < k → ∀ v, v < 11 → 0 < g (11 * Q j + v) → R v = true) ∧ (∀ v, v < i → 0 < g (11 * Q k + v) → R v = true))
    11 0 (nI qe, a9, a10) (by omega) ⟨qe, R, P, Q, o, hkq, rfl, hT, hL, fun v hv => absurd hv (by omega)⟩ ?_ ?_
  · rintro n ⟨f, b9, b10⟩ ⟨qe, R, P, Q, o, hkq, hf, hT, hL, hL2⟩
    dsimp only at hf hT
    subst hf
    refine pk_le 11 11 (fun _ => nm_r (nI_1 k) (H qe R P Q o b9 b10 hT ?_)) (fun z => absurd z (by omega))
    intro j hj v hv hg
    by_cases e : j = k
    · subst e
      exact hL2 v hv hg
    · exact hL j (by omega) v hv hg
  · rintro n i ⟨f, b9, b10⟩ hi ⟨qe, R, P, Q, o, hkq, hf, hT, hL, hL2⟩ hw
    dsimp only at hf hT
    subst hf
    have hq11 := cl_T_le hT
    obtain ⟨tk1, tk2, tk3, tk4⟩ := hT.2.2.1 k hkq
    refine pk_le 11 i (fun z => absurd z (by omega)) (fun _ => ⟨pk_in i 11 hi, ?_⟩)
    dsimp only
    rw [nI_clamp (show i < 2 ^ 31 by omega), nI_clamp (show k < 2 ^ 31 by omega), tk1, cl_ix, nI_clamp (show 11 * Q k + i < 2 ^ 31 by omega)]
    cases hR : R i
    · refine br_f (by rw [(hT.2.1 i hi).2 hR]; decide) ⟨pk_in k 11 hk, pk_in (11 * Q k + i) 121 (by omega), ?_⟩
      have hgb := hb (11 * Q k + i) (by omega)
      refine pk_le (g (11 * Q k + i)) 0 (fun z => nm_r (nI_1 i) (hw (nI qe, b9, b10) ⟨qe, R, P, Q, o, hkq, rfl, hT, hL, ?_⟩)) (fun z => ?_) (hG _ (by omega))
      · intro v hv hg
        by_cases e : v = i
        · subst e
          omega
        · exact hL2 v (by omega) hg
      · have hT' := cl_T_add hT hkq hi hR z
        have hq2 := cl_T_le hT'
        refine ⟨pk_in k 11 hk, pk_in i 11 hi, nm_e ⟨pk_in qe 11 (by omega), nm_r (by rw [nI_clamp (show qe < 2 ^ 31 by omega)]) (nm_r (nI_1 qe) (nm_r (nI_1 i) (hw (nI (qe + 1), upd b9 i (nI (Q k)), upd b10 qe (nI i)) ⟨qe + 1, _, _, _, _, by omega, rfl, hT', ?_, ?_⟩)))⟩⟩
        · intro j hj v hv hg
          rw [cl_u_n (by omega)] at hg
          split
          · rfl
          · exact hL j hj v hv hg
        · intro v hv hg
          rw [cl_u_n (by omega)] at hg
          split
          · rfl
          · exact hL2 v (by omega) hg
    · have hP : P i < 2 ^ 31 := by
        by_cases e : i = s
        · subst e
          rw [hT.2.2.2.2.2.1]
          omega
        · have := (hT.2.2.2.2.2.2 i hi hR e).1
          omega
      refine br_t (by rw [(hT.2.1 i hi).1 hR]; exact nI_pos' hP) (nm_r (nI_1 i) (hw (nI qe, b9, b10) ⟨qe, R, P, Q, o, hkq, rfl, hT, hL, ?_⟩))
      intro v hv hg
      by_cases e : v = i
      · subst e
        exact hR
      · exact hL2 v (by omega) hg

/-- what a search from s leaves in reachedFrom -/
def cl_W (g : Nat → Nat) (s : Nat) (a9 : Nat → Int32) : Prop := ∃ (R : Nat → Bool) (P o : Nat → Nat),
  (∀ v, v < 11 → (R v = true → a9 v = nI (P v)) ∧ (R v = false → a9 v = -1)) ∧
  R s = true ∧ P s = s ∧
  (∀ v, v < 11 → R v = true → o v < 11) ∧
  (∀ v, v < 11 → R v = true → v ≠ s → P v < 11 ∧ R (P v) = true ∧ 0 < g (11 * P v + v) ∧ o (P v) < o v) ∧
  (∀ u v, u < 11 → v < 11 → R u = true → 0 < g (11 * u + v) → R v = true)
theorem cl_T_W {g : Nat → Nat} {s qe k : Nat} {R : Nat → Bool} {P Q o : Nat → Nat} {a9 a10 : Nat → Int32} (hT : cl_T g s qe R P Q o a9 a10) (hL : ∀ j, j < k → ∀ v, v < 11 → 0 < g (11 * Q j + v) → R v = true) (hk : qe ≤ k) : cl_W g s a9 := by
  have hq := cl_T_le hT
  obtain ⟨h1, h2, h3, h4, h5, h6, h7⟩ := hT
  refine ⟨R, P, o, h2, h5, h6, fun v hv hR => ?_, h7, fun u v hu hv hR hg => ?_⟩
  · have := (h4 v hv hR).1
    omega
  · obtain ⟨t1, t2⟩ := h4 u hu hR
    refine hL (o u) (by omega) v hv ?_
    rw [t2]
    exact hg
theorem cl_search {post : St1 → Prop} {q : Int32} {a1 a2 a3 a4 a5 a6 a7 a8 a9 a10 : Nat → Int32} {g : Nat → Nat} {b : Nat} (s : Nat) (hs : s < 11) (hG : cl_G a8 g) (hb : cl_b g b) (hb2 : b < 2 ^ 31)
    (H : ∀ (q' : Int32) (a9' a10' : Nat → Int32), cl_W g s a9' → post (q', a1, a2, a3, a4, a5, a6, a7, a8, a9', a10')) :
    wpX_search post (q, a1, a2, a3, a4, a5, a6, a7, a8, a9, a10) (nI s) := by
  show ∃ n, wX_search_2 post (nI s) q n 0 a1 a2 a3 a4 a5 a6 a7 a8 a9 a10
  refine pk_loop (fun n i st => wX_search_2 post (nI s) q n (nI i) a1 a2 a3 a4 a5 a6 a7 a8 st a10) (fun i st => ∀ v, v < i → st v = -1) 11 0 a9 (by omega) (fun v hv => absurd hv (by omega)) ?_ ?_
  · intro n st h
    refine pk_le 11 11 (fun _ => ⟨pk_in s 11 hs, nm_r (by rw [nI_clamp (show s < 2 ^ 31 by omega)]) (nm_e ?_)⟩) (fun z => absurd z (by omega))
    refine pk_loop (σ := Int32 × (Nat → Int32) × (Nat → Int32)) (fun n i st => wX_search_42 post n (nI i) st.1 a1 a2 a3 a4 a5 a6 a7 a8 st.2.1 st.2.2)
      (fun i st => ∃ (qe : Nat) (R : Nat → Bool) (P Q o : Nat → Nat), st.1 = nI qe ∧ cl_T g s qe R P Q o st.2.1 st.2.2 ∧ (∀ j, j < i → ∀ v, v < 11 → 0 < g (11 * Q j + v) → R v = true))
      11 0 (nI 1, upd st s (nI s), upd a10 0 (nI s)) (by omega) ⟨1, _, _, _, _, rfl, cl_T_0 hs h, fun j hj => absurd hj (by omega)⟩ ?_ ?_
    · rintro n ⟨f, b9, b10⟩ ⟨qe, R, P, Q, o, hf, hT, hL⟩
      dsimp only at hf hT
      subst hf
      have hq := cl_T_le hT
      exact pk_le qe 11 (fun _ => H _ _ _ (cl_T_W hT hL hq)) (fun z => absurd z (by omega))
    · rintro n i ⟨f, b9, b10⟩ hi ⟨qe, R, P, Q, o, hf, hT, hL⟩ hw
      dsimp only at hf hT
      subst hf
      have hq := cl_T_le hT
      refine pk_le qe i (fun z => H _ _ _ (cl_T_W hT hL z)) (fun z => pk_le 11 i (fun z2 => absurd z2 (by omega)) (fun _ => ?_))
      exact cl_s58 hG hb hb2 hi z hT hL (fun qe' R' P' Q' o' a9' a10' hT' hL' => hw (nI qe', a9', a10') ⟨qe', R', P', Q', o', rfl, hT', hL'⟩)
  · intro n i st hi h hw
    refine pk_le 11 i (fun z => absurd z (by omega)) (fun _ => ⟨pk_in i 11 hi, nm_r (by rw [nI_clamp (show i < 2 ^ 31 by omega)]) (nm_r (nI_1 i) (hw (upd st i (-1)) ?_))⟩)
    intro v hv
    by_cases e : v = i
    · rw [e, pk_us]
    · rw [pk_un e]
      exact h v (by omega)
/-- reached by the search: reached in the network -/
theorem cl_W_R {g : Nat → Nat} {s v : Nat} {a9 : Nat → Int32} (h : cl_W g s a9) (hs : s < 11) (hv : v < 11) : (cl_R g s v ∧ ¬ a9 v < 0 ∧ 0 ≤ a9 v) ∨ (¬ cl_R g s v ∧ a9 v < 0 ∧ ¬ 0 ≤ a9 v) := by
  obtain ⟨R, P, o, h2, h5, h6, h4, h7, h8⟩ := h
  cases hR : R v
  · refine Or.inr ⟨fun z => ?_, by rw [(h2 v hv).2 hR]; decide, by rw [(h2 v hv).2 hR]; decide⟩
    have t := z (fun x => x < 11 → R x = true) (fun _ => h5) (fun x y hx hy hX hg _ => h8 x y hx hy (hX hx) hg) hv
    rw [hR] at t
    exact absurd t (by decide)
  · have hP : P v < 2 ^ 31 := by
      by_cases e : v = s
      · subst e
        rw [h6]
        omega
      · have := (h7 v hv hR e).1
        omega
    refine Or.inl ⟨?_, by rw [(h2 v hv).1 hR]; exact nI_pos hP, by rw [(h2 v hv).1 hR]; exact nI_pos' hP⟩
    have main : ∀ N w, w < 11 → R w = true → o w < N → cl_R g s w := by
      intro N
      induction N with
      | zero => exact fun w _ _ z => absurd z (by omega)
      | succ N ih =>
        intro w hw hRw ho
        by_cases e : w = s
        · rw [e]
          exact cl_R_refl g s
        · obtain ⟨t1, t2, t3, t4⟩ := h7 w hw hRw e
          exact cl_R_trans (ih (P w) t1 t2 (by omega)) (cl_R_step t1 hw t3)
    exact main (o v + 1) v hv hR (by omega)
/-- the way back from a reached point to the zero end -/
def cl_P (g : Nat → Nat) (a9 : Nat → Int32) (o L : Nat → Nat) (m v : Nat) : Prop := L 0 = v ∧ L m = 9 ∧ (∀ j, j ≤ m → L j < 11) ∧ (∀ j, j < m → L j ≠ 9 ∧ a9 (L j) = nI (L (j + 1)) ∧ 0 < g (11 * L (j + 1) + L j) ∧ o (L (j + 1)) < o (L j))
theorem cl_path {g : Nat → Nat} {a9 : Nat → Int32} (h : cl_W g 9 a9) (hR : ¬ a9 10 < 0) : ∃ (o L : Nat → Nat) (m : Nat), m ≤ 10 ∧ cl_P g a9 o L m 10 := by
  obtain ⟨R, P, o, h2, h5, h6, h4, h7, h8⟩ := h
  have hR10 : R 10 = true := by
    cases e : R 10
    · rw [(h2 10 (by omega)).2 e] at hR
      exact absurd (by decide) hR
    · rfl
  have main : ∀ N w, w < 11 → R w = true → o w ≤ N → ∃ (L : Nat → Nat) (m : Nat), m ≤ N ∧ cl_P g a9 o L m w := by
    intro N
    induction N with
    | zero =>
      intro w hw hRw ho
      by_cases e : w = 9
      · exact ⟨fun _ => 9, 0, by omega, e.symm, rfl, fun j _ => by show 9 < 11; omega, fun j hj => absurd hj (by omega)⟩
      · have := (h7 w hw hRw e).2.2.2
        omega
    | succ N ih =>
      intro w hw hRw ho
      by_cases e : w = 9
      · exact ⟨fun _ => 9, 0, by omega, e.symm, rfl, fun j _ => by show 9 < 11; omega, fun j hj => absurd hj (by omega)⟩
      · obtain ⟨t1, t2, t3, t4⟩ := h7 w hw hRw e
        obtain ⟨L, m, hm, l0, lm, lb, ls⟩ := ih (P w) t1 t2 (by omega)
        refine ⟨fun j => match j with | 0 => w | j + 1 => L j, m + 1, by omega, rfl, lm, fun j hj => ?_, fun j hj => ?_⟩
        · cases j with
          | zero => exact hw
          | succ j => exact lb j (by omega)
        · cases j with
          | zero =>
            refine ⟨e, ?_, ?_, ?_⟩
            · show a9 w = nI (L 0)
              rw [l0]
              exact (h2 w hw).1 hRw
            · show 0 < g (11 * L 0 + w)
              rw [l0]
              exact t3
            · show o (L 0) < o w
              rw [l0]
              exact t4
          | succ j => exact ls j (by omega)
  obtain ⟨L, m, hm, hP⟩ := main (o 10) 10 (by omega) hR10 (Nat.le_refl _)
  have := h4 10 (by omega) hR10
  exact ⟨o, L, m, by omega, hP⟩
end
section
/-! narrowest and fill -/
theorem cl_narrow {post : Int32 → Prop} {q : Int32} {a1 a2 a3 a4 a5 a6 a7 a8 a9 a10 : Nat → Int32} {g o L : Nat → Nat} {b m : Nat} (hG : cl_G a8 g) (hb : cl_b g b) (hb2 : b < 2 ^ 31) (hm : m ≤ 10) (hP : cl_P g a9 o L m 10)
    (H : ∀ f, 1 ≤ f → f ≤ 1000000 → (∀ j, j < m → f ≤ g (11 * L (j + 1) + L j)) → post (nI f)) :
    wpX_narrowest post (q, a1, a2, a3, a4, a5, a6, a7, a8, a9, a10) := by
  obtain ⟨l0, lm, lb, ls⟩ := hP
  have key : ∃ n, wX_narrowest_8 post q a1 a2 a3 a4 a5 a6 a7 a8 a9 a10 n (nI 1000000) (nI (L 0)) (nI 0) := by
    refine pk_loop (fun n i st => wX_narrowest_8 post q a1 a2 a3 a4 a5 a6 a7 a8 a9 a10 n st (nI (L i)) (nI i)) (fun i st => ∃ f, st = nI f ∧ 1 ≤ f ∧ f ≤ 1000000 ∧ ∀ j, j < i → f ≤ g (11 * L (j + 1) + L j)) m 0 (nI 1000000) (by omega) ⟨1000000, rfl, by omega, by omega, fun j hj => absurd hj (by omega)⟩ ?_ ?_
    · rintro n st ⟨f, rfl, f1, f2, f3⟩
      have := lb m (by omega)
      exact pk_le 11 m (fun z => absurd z (by omega)) (fun _ => pk_eq (L m) 9 (fun _ => H f f1 f2 f3) (fun z => absurd lm z))
    · rintro n i st hi ⟨f, rfl, f1, f2, f3⟩ hw
      obtain ⟨s1, s2, s3, s4⟩ := ls i hi
      have b1 := lb i (by omega)
      have b2 := lb (i + 1) (by omega)
      have hgb := hb (11 * L (i + 1) + L i) (by omega)
      refine pk_le 11 i (fun z => absurd z (by omega)) (fun _ => pk_eq (L i) 9 (fun z => absurd z s1) (fun _ => ⟨pk_in (L i) 11 b1, ?_⟩))
      rw [nI_clamp (show L i < 2 ^ 31 by omega), s2, cl_ix, nI_clamp (show 11 * L (i + 1) + L i < 2 ^ 31 by omega)]
      refine ⟨pk_in (11 * L (i + 1) + L i) 121 (by omega), nm_r (hG _ (by omega)) (pk_le f (g (11 * L (i + 1) + L i)) (fun z => ?_) (fun z => ?_))⟩
      · refine And.intro (pk_in (L i) 11 b1) (nm_r (by rw [nI_clamp (show L i < 2 ^ 31 by omega)]; exact s2) (nm_r (nI_1 i) (hw (nI f) ⟨f, rfl, f1, f2, fun j hj => ?_⟩)))
        by_cases e : j = i
        · subst e
          exact z
        · exact f3 j (by omega)
      · refine And.intro (pk_in (L i) 11 b1) (nm_r (by rw [nI_clamp (show L i < 2 ^ 31 by omega)]; exact s2) (nm_r (nI_1 i) (hw (nI (g (11 * L (i + 1) + L i))) ⟨_, rfl, by omega, by omega, fun j hj => ?_⟩)))
        by_cases e : j = i
        · subst e
          exact Nat.le_refl _
        · have := f3 j (by omega)
          omega
  rw [l0] at key
  exact key
/-- the two lines between two points hold together what they held at first -/
def cl_p (g0 g : Nat → Nat) : Prop := ∀ x y, x < 11 → y < 11 → g (11 * x + y) + g (11 * y + x) = g0 (11 * x + y) + g0 (11 * y + x)
theorem cl_p_b {g0 g : Nat → Nat} {b : Nat} (h : cl_p g0 g) (hb : cl_b g0 b) : cl_b g (2 * b) := by
  intro k hk
  have h1 := h (k / 11) (k % 11) (by omega) (by omega)
  have h2 := hb (11 * (k / 11) + k % 11) (by omega)
  have h3 := hb (11 * (k % 11) + k / 11) (by omega)
  rw [show 11 * (k / 11) + k % 11 = k by omega] at h1 h2
  omega
theorem cl_f39 {post : Int32 → St1 → Prop} {J : Int32 → Int32 → Int32 → (Nat → Int32) → (Nat → Int32) → (Nat → Int32) → (Nat → Int32) → (Nat → Int32) → (Nat → Int32) → (Nat → Int32) → (Nat → Int32) → (Nat → Int32) → (Nat → Int32) → Prop}
    {x1 x2 q : Int32} {a1 a2 a3 a4 a5 a6 a7 a8 a9 a10 : Nat → Int32} {g o L : Nat → Nat} {m f : Nat} (hG : cl_G a8 g) (hm : m ≤ 10) (hP : cl_P g a9 o L m 10)
    (hf : ∀ j, j < m → f ≤ g (11 * L (j + 1) + L j))
    (H : ∀ (h : Nat → Nat) (a8' : Nat → Int32), cl_G a8' h → cl_p g h → cl_F g h f → wX_fill_106 post J x1 x2 (nI f) q a1 a2 a3 a4 a5 a6 a7 a8' a9 a10) :
    ∃ n, wX_fill_39 post J x1 x2 (nI f) q n 10 0 a1 a2 a3 a4 a5 a6 a7 a8 a9 a10 := by
  obtain ⟨l0, lm, lb, ls⟩ := hP
  have key : ∃ n, wX_fill_39 post J x1 x2 (nI f) q n (nI (L 0)) (nI 0) a1 a2 a3 a4 a5 a6 a7 a8 a9 a10 := by
    refine pk_loop (fun n i st => wX_fill_39 post J x1 x2 (nI f) q n (nI (L i)) (nI i) a1 a2 a3 a4 a5 a6 a7 st a9 a10)
      (fun i st => ∃ h : Nat → Nat, cl_G st h ∧ cl_p g h ∧ (∀ S : Nat → Bool, S 9 = true → S 10 = false → cl_C h S + (if S (L i) = true then f else 0) = cl_C g S) ∧ (∀ x y, x < 11 → y < 11 → o x ≤ o (L i) → o y ≤ o (L i) → h (11 * x + y) = g (11 * x + y)))
      m 0 a8 (by omega) ⟨g, hG, fun _ _ _ _ => rfl, fun S h9 h10 => by rw [l0, if_neg (by rw [h10]; decide)]; rfl, fun _ _ _ _ _ _ => rfl⟩ ?_ ?_
    · rintro n st ⟨h, i1, i2, i3, i4⟩
      have := lb m (by omega)
      refine pk_le 11 m (fun z => absurd z (by omega)) (fun _ => pk_eq (L m) 9 (fun _ => H h st i1 i2 (fun S h9 h10 => ?_)) (fun z => absurd lm z))
      have t := i3 S h9 h10
      rw [lm, if_pos h9] at t
      exact t
    · rintro n i st hi ⟨h, i1, i2, i3, i4⟩ hw
      obtain ⟨s1, s2, s3, s4⟩ := ls i hi
      have b1 := lb i (by omega)
      have b2 := lb (i + 1) (by omega)
      have hfi := hf i hi
      have eg : h (11 * L (i + 1) + L i) = g (11 * L (i + 1) + L i) := i4 _ _ b2 b1 (by omega) (by omega)
      have hua : L (i + 1) ≠ L i := fun e => by
        rw [e] at s4
        omega
      refine pk_le 11 i (fun z => absurd z (by omega)) (fun _ => pk_eq (L i) 9 (fun z => absurd z s1) (fun _ => ⟨pk_in (L i) 11 b1, nm_r (e' := nI (L (i + 1))) (by rw [nI_clamp (show L i < 2 ^ 31 by omega)]; exact s2) ?_⟩))
      rw [cl_ix, cl_ix, nI_clamp (show 11 * L (i + 1) + L i < 2 ^ 31 by omega), nI_clamp (show 11 * L i + L (i + 1) < 2 ^ 31 by omega)]
      have G1 : cl_G (upd st (11 * L (i + 1) + L i) (st (11 * L (i + 1) + L i) - nI f)) (cl_u h (11 * L (i + 1) + L i) (h (11 * L (i + 1) + L i) - f)) := cl_G_u i1 rfl (by rw [i1 _ (by omega), pk_sub (by omega)])
      refine ⟨pk_in (11 * L (i + 1) + L i) 121 (by omega), pk_in (11 * L (i + 1) + L i) 121 (by omega), nm_e ⟨pk_in (11 * L i + L (i + 1)) 121 (by omega), pk_in (11 * L i + L (i + 1)) 121 (by omega), nm_e (nm_r (nI_1 i) (hw _ ⟨cl_a h (L (i + 1)) (L i) f, cl_G_u G1 rfl (by rw [G1 _ (by omega), nI_add]), ?_, ?_, ?_⟩))⟩⟩
      · intro x y hx hy
        rw [cl_a_p b2 b1 hua (by omega) hx hy]
        exact i2 x y hx hy
      · intro S h9 h10
        rw [cl_C_a b2 b1 hua (by omega)]
        exact i3 S h9 h10
      · intro x y hx hy ox oy
        rw [cl_a_n (fun z => ?_) (fun z => ?_)]
        · exact i4 x y hx hy (by omega) (by omega)
        · have e : y = L i := by omega
          rw [e] at oy
          omega
        · have e : x = L i := by omega
          rw [e] at ox
          omega
  rw [l0] at key
  exact key
theorem cl_F_0 (g : Nat → Nat) : cl_F g g 0 := fun _ _ _ => rfl
theorem cl_F_t {g0 g h : Nat → Nat} {t f : Nat} (h1 : cl_F g0 g t) (h2 : cl_F g h f) : cl_F g0 h (t + f) := by
  intro S h9 h10
  have t1 := h1 S h9 h10
  have t2 := h2 S h9 h10
  omega
theorem cl_F_bd {g0 g : Nat → Nat} {t b : Nat} (h : cl_F g0 g t) (hb : cl_b g0 b) : t ≤ 121 * b := by
  have h1 := cl_F_le h (S := fun v => decide (v = 9)) rfl rfl
  have h2 := cl_C_bd (g := g0) (S := fun v => decide (v = 9)) hb
  omega
theorem cl_fill {post : Int32 → St1 → Prop} {q : Int32} {a1 a2 a3 a4 a5 a6 a7 a8 a9 a10 : Nat → Int32} {g0 : Nat → Nat} (hG : cl_G a8 g0) (hb : cl_b g0 1000000)
    (H : ∀ (t : Nat) (g : Nat → Nat) (q' : Int32) (a8' a9' a10' : Nat → Int32), t < 2 ^ 31 → cl_G a8' g → cl_b g 2000000 → cl_F g0 g t → (1000 ≤ t ∨ ¬ cl_R g 9 10) → post (nI t) (q', a1, a2, a3, a4, a5, a6, a7, a8', a9', a10')) :
    wpX_fill post (q, a1, a2, a3, a4, a5, a6, a7, a8, a9, a10) := by
  refine cl_search 9 (by omega) hG hb (by omega) (fun q' b9 b10 hW => ?_)
  refine pk_loop (σ := Int32 × Int32 × (Nat → Int32) × (Nat → Int32) × (Nat → Int32)) (fun n i st => wX_fill_10 post n st.1 (nI i) st.2.1 a1 a2 a3 a4 a5 a6 a7 st.2.2.1 st.2.2.2.1 st.2.2.2.2)
    (fun w st => ∃ (t : Nat) (g : Nat → Nat), st.1 = nI t ∧ w ≤ t ∧ cl_G st.2.2.1 g ∧ cl_F g0 g t ∧ cl_p g0 g ∧ cl_W g 9 st.2.2.2.1)
    1000 0 (nI 0, q', a8, b9, b10) (by omega) ⟨0, g0, rfl, by omega, hG, cl_F_0 g0, fun _ _ _ _ => rfl, hW⟩ ?_ ?_
  · rintro n ⟨x1, q2, c8, c9, c10⟩ ⟨t, g, e, w1, w2, w3, w4, w5⟩
    dsimp only at e w2 w5
    subst e
    have ht := cl_F_bd w3 hb
    have hb2 : cl_b g 2000000 := cl_p_b w4 hb
    exact pk_le 1000 1000 (fun _ => H t g q2 c8 c9 c10 (by omega) w2 hb2 w3 (Or.inl w1)) (fun z => absurd z (by omega))
  · rintro n w ⟨x1, q2, c8, c9, c10⟩ hw ⟨t, g, e, w1, w2, w3, w4, w5⟩ hn
    dsimp only at e w2 w5
    subst e
    have ht := cl_F_bd w3 hb
    have hb2 : cl_b g 2000000 := cl_p_b w4 hb
    refine pk_le 1000 w (fun z => absurd z (by omega)) (fun _ => br_c (fun hz => ?_) (fun hz => ?_))
    · refine H t g q2 c8 c9 c10 (by omega) w2 hb2 w3 (Or.inr (fun z => ?_))
      rcases cl_W_R (v := 10) w5 (by omega) (by omega) with k | k
      · exact k.2.1 hz
      · exact k.1 z
    · obtain ⟨o, L, m, hm, hP⟩ := cl_path w5 hz
      refine cl_narrow w2 hb2 (by omega) hm hP (fun f f1 f2 f3 => ?_)
      refine cl_f39 w2 hm hP f3 (fun h d8 v1 v2 v3 => ?_)
      have v4 : cl_p g0 h := fun x y hx hy => (v2 x y hx hy).trans (w4 x y hx hy)
      refine nm_r (nI_add t f) (cl_search 9 (by omega) v1 (cl_p_b v4 hb) (by omega) (fun q3 e9 e10 hW3 => ?_))
      exact nm_r (nI_1 w) (hn (nI (t + f), q3, d8, e9, e10) ⟨t + f, h, rfl, by omega, v1, cl_F_t w3 v3, v4, hW3⟩)
end
section
/-! the network out of costs and ties; the energy of a labelling -/
def cl_n (a : Nat → Int32) (k : Nat) : Nat := (a k).toNatClampNeg
/-- an array's first n places hold naturals of at most b -/
def cl_B (n b : Nat) (a : Nat → Int32) : Prop := ∀ k, k < n → ∃ v, v ≤ b ∧ a k = nI v
theorem cl_B_n {n b k : Nat} {a : Nat → Int32} (h : cl_B n b a) (hk : k < n) (hb : b < 2 ^ 31 := by omega) : a k = nI (cl_n a k) ∧ cl_n a k ≤ b := by
  obtain ⟨v, hv, e⟩ := h k hk
  have e2 : cl_n a k = v := by
    unfold cl_n
    rw [e, nI_clamp (by omega)]
  rw [e2]
  exact ⟨e, hv⟩
theorem cl_B_u {n b k v : Nat} {a : Nat → Int32} (h : cl_B n b a) (hv : v ≤ b) : cl_B n b (upd a k (nI v)) := by
  intro j hj
  by_cases e : j = k
  · exact ⟨v, hv, by rw [e, pk_us]⟩
  · rw [pk_un e]
    exact h j hj
theorem cl_B_0 (n b : Nat) : cl_B n b (fun _ => 0) := fun _ _ => ⟨0, by omega, rfl⟩
def cl_V (a1 a2 a3 a4 a5 a6 a7 : Nat → Int32) : Prop := cl_B 9 100 a1 ∧ cl_B 9 100 a2 ∧ cl_B 16 1 a3 ∧ cl_B 16 8 a4 ∧ cl_B 16 8 a5 ∧ cl_B 16 100 a6 ∧ cl_B 16 100 a7
/-- the energy of the labelling that gives 0 to S: costs, then ties -/
def cl_E1 (a1 a2 : Nat → Int32) (S : Nat → Bool) (p : Nat) : Nat := if S p = true then cl_n a1 p else cl_n a2 p
def cl_E2 (a3 a4 a5 a6 a7 : Nat → Int32) (S : Nat → Bool) (t : Nat) : Nat := if cl_n a3 t = 0 then 0 else
  (if S (cl_n a4 t) = true ∧ S (cl_n a5 t) = false then cl_n a6 t else 0) + (if S (cl_n a5 t) = true ∧ S (cl_n a4 t) = false then cl_n a7 t else 0)
def cl_E (a1 a2 a3 a4 a5 a6 a7 : Nat → Int32) (S : Nat → Bool) : Nat := cl_sm (cl_E1 a1 a2 S) 9 + cl_sm (cl_E2 a3 a4 a5 a6 a7 S) 16

/-- one tie in the network -/
theorem cl_C_tie {g : Nat → Nat} {S : Nat → Bool} {x y u v : Nat} (hx : x < 11) (hy : y < 11) :
    cl_C (cl_u (cl_u g (11 * x + y) (g (11 * x + y) + u)) (11 * y + x) (cl_u g (11 * x + y) (g (11 * x + y) + u) (11 * y + x) + v)) S
      = cl_C g S + ((if S x = true ∧ S y = false then u else 0) + (if S y = true ∧ S x = false then v else 0)) := by
  have h1 := cl_C_set (g := g) (S := S) (v := g (11 * x + y) + u) hx hy
  have h2 := cl_C_set (g := cl_u g (11 * x + y) (g (11 * x + y) + u)) (S := S) (v := cl_u g (11 * x + y) (g (11 * x + y) + u) (11 * y + x) + v) hy hx
  cases hSx : S x <;> cases hSy : S y <;> simp [hSx, hSy] at h1 h2 ⊢ <;> omega
theorem cl_b_u {g : Nat → Nat} {b k v : Nat} (h : cl_b g b) (hv : v ≤ b) : cl_b (cl_u g k v) b := by
  intro j hj
  by_cases e : j = k
  · rw [e, cl_u_s]
    exact hv
  · rw [cl_u_n e]
    exact h j hj
theorem cl_b_le {g : Nat → Nat} {b c : Nat} (h : cl_b g b) (hc : b ≤ c) : cl_b g c := fun k hk => Nat.le_trans (h k hk) hc
theorem cl_b70 {post : St1 → Prop} {q : Int32} {a1 a2 a3 a4 a5 a6 a7 a8 a9 a10 : Nat → Int32} {g : Nat → Nat} (hV : cl_V a1 a2 a3 a4 a5 a6 a7) (hG : cl_G a8 g) (hb : cl_b g 100)
    (hC : ∀ S : Nat → Bool, S 9 = true → S 10 = false → cl_C g S = cl_sm (cl_E1 a1 a2 S) 9)
    (H : ∀ (g : Nat → Nat) (a8' : Nat → Int32), cl_G a8' g → cl_b g 4000 → (∀ S : Nat → Bool, S 9 = true → S 10 = false → cl_C g S = cl_E a1 a2 a3 a4 a5 a6 a7 S) → post (q, a1, a2, a3, a4, a5, a6, a7, a8', a9, a10)) :
    ∃ n, wX_build_70 post q n 0 a1 a2 a3 a4 a5 a6 a7 a8 a9 a10 := by
  obtain ⟨v1, v2, v3, v4, v5, v6, v7⟩ := hV
  refine pk_loop (fun n i st => wX_build_70 post q n (nI i) a1 a2 a3 a4 a5 a6 a7 st a9 a10)
    (fun i st => ∃ g : Nat → Nat, cl_G st g ∧ cl_b g (100 + 200 * i) ∧ ∀ S : Nat → Bool, S 9 = true → S 10 = false → cl_C g S = cl_sm (cl_E1 a1 a2 S) 9 + cl_sm (cl_E2 a3 a4 a5 a6 a7 S) i)
    16 0 a8 (by omega) ⟨g, hG, hb, fun S h9 h10 => hC S h9 h10⟩ ?_ ?_
  · rintro n st ⟨g, i1, i2, i3⟩
    exact pk_le 16 16 (fun _ => H g st i1 (cl_b_le i2 (by omega)) i3) (fun z => absurd z (by omega))
  · rintro n i st hi ⟨g, i1, i2, i3⟩ hw
    obtain ⟨e3, l3⟩ := cl_B_n v3 hi
    obtain ⟨e4, l4⟩ := cl_B_n v4 hi
    obtain ⟨e5, l5⟩ := cl_B_n v5 hi
    obtain ⟨e6, l6⟩ := cl_B_n v6 hi
    obtain ⟨e7, l7⟩ := cl_B_n v7 hi
    refine pk_le 16 i (fun z => absurd z (by omega)) (fun _ => ⟨pk_in i 16 hi, ?_⟩)
    rw [nI_clamp (show i < 2 ^ 31 by omega)]
    refine pk_eq (cl_n a3 i) 0 (fun z => nm_r (nI_1 i) (hw st ⟨g, i1, cl_b_le i2 (by omega), fun S h9 h10 => ?_⟩)) (fun z => ?_) e3
    · rw [i3 S h9 h10]
      show _ = _ + (cl_sm _ i + cl_E2 a3 a4 a5 a6 a7 S i)
      unfold cl_E2
      rw [if_pos z]
      rfl
    · rw [e4, e5, e6, e7, cl_ix, cl_ix, nI_clamp (show 11 * cl_n a4 i + cl_n a5 i < 2 ^ 31 by omega), nI_clamp (show 11 * cl_n a5 i + cl_n a4 i < 2 ^ 31 by omega)]
      have p1 : vp_in (nI i) 16 := pk_in i 16 hi
      have p2 : vp_in (nI (11 * cl_n a4 i + cl_n a5 i)) 121 := pk_in (11 * cl_n a4 i + cl_n a5 i) 121 (by omega)
      have p3 : vp_in (nI (11 * cl_n a5 i + cl_n a4 i)) 121 := pk_in (11 * cl_n a5 i + cl_n a4 i) 121 (by omega)
      have G1 : cl_G (upd st (11 * cl_n a4 i + cl_n a5 i) (st (11 * cl_n a4 i + cl_n a5 i) + nI (cl_n a6 i))) (cl_u g (11 * cl_n a4 i + cl_n a5 i) (g (11 * cl_n a4 i + cl_n a5 i) + cl_n a6 i)) := cl_G_u i1 rfl (by rw [i1 _ (by omega), nI_add])
      have b0 := i2 (11 * cl_n a4 i + cl_n a5 i) (by omega)
      have B1 : cl_b (cl_u g (11 * cl_n a4 i + cl_n a5 i) (g (11 * cl_n a4 i + cl_n a5 i) + cl_n a6 i)) (100 + 200 * i + 100) := cl_b_u (cl_b_le i2 (by omega)) (by omega)
      have b1 := B1 (11 * cl_n a5 i + cl_n a4 i) (by omega)
      refine ⟨p1, p1, p2, p1, p2, nm_e ⟨p1, p1, p3, p1, p3, nm_e (nm_r (nI_1 i) (hw _ ⟨_, cl_G_u (v := cl_u g (11 * cl_n a4 i + cl_n a5 i) (g (11 * cl_n a4 i + cl_n a5 i) + cl_n a6 i) (11 * cl_n a5 i + cl_n a4 i) + cl_n a7 i) G1 rfl (by rw [G1 _ (by omega), nI_add]), cl_b_u (cl_b_le B1 (by omega)) (by omega), fun S h9 h10 => ?_⟩))⟩⟩
      rw [cl_C_tie (by omega) (by omega), i3 S h9 h10]
      show _ = _ + (cl_sm _ i + cl_E2 a3 a4 a5 a6 a7 S i)
      unfold cl_E2
      rw [if_neg z]
      omega
theorem cl_build {post : St1 → Prop} {q : Int32} {a1 a2 a3 a4 a5 a6 a7 a8 a9 a10 : Nat → Int32} (hV : cl_V a1 a2 a3 a4 a5 a6 a7)
    (H : ∀ (g : Nat → Nat) (a8' : Nat → Int32), cl_G a8' g → cl_b g 4000 → (∀ S : Nat → Bool, S 9 = true → S 10 = false → cl_C g S = cl_E a1 a2 a3 a4 a5 a6 a7 S) → post (q, a1, a2, a3, a4, a5, a6, a7, a8', a9, a10)) :
    wpX_build post (q, a1, a2, a3, a4, a5, a6, a7, a8, a9, a10) := by
  show ∃ n, wX_build_2 post q n 0 a1 a2 a3 a4 a5 a6 a7 a8 a9 a10
  refine pk_loop (fun n i st => wX_build_2 post q n (nI i) a1 a2 a3 a4 a5 a6 a7 st a9 a10) (fun i st => ∀ k, k < i → st k = nI 0) 121 0 a8 (by omega) (fun k hk => absurd hk (by omega)) ?_ ?_
  · intro n st h
    refine pk_le 121 121 (fun _ => ?_) (fun z => absurd z (by omega))
    have v1 := hV.1
    have v2 := hV.2.1
    refine pk_loop (fun n i st => wX_build_23 post q n (nI i) a1 a2 a3 a4 a5 a6 a7 st a9 a10)
      (fun i st => ∃ g : Nat → Nat, cl_G st g ∧ cl_b g 100 ∧ (∀ j, i ≤ j → j < 9 → g (11 * 9 + j) = 0 ∧ g (11 * j + 10) = 0) ∧ ∀ S : Nat → Bool, S 9 = true → S 10 = false → cl_C g S = cl_sm (cl_E1 a1 a2 S) i)
      9 0 st (by omega) ⟨fun _ => 0, h, fun _ _ => Nat.zero_le _, fun _ _ _ => ⟨rfl, rfl⟩, fun S _ _ => cl_C_0 (fun x y _ _ _ z => absurd z (by omega))⟩ ?_ ?_
    · rintro n st ⟨g, i1, i2, i3, i4⟩
      exact pk_le 9 9 (fun _ => cl_b70 hV i1 i2 i4 H) (fun z => absurd z (by omega))
    · rintro n i st hi ⟨g, i1, i2, i3, i4⟩ hw
      obtain ⟨e1, l1⟩ := cl_B_n v1 hi
      obtain ⟨e2, l2⟩ := cl_B_n v2 hi
      refine pk_le 9 i (fun z => absurd z (by omega)) (fun _ => ⟨pk_in i 9 hi, ?_⟩)
      have ea : (99 : Int32) + nI i = nI (11 * 9 + i) := nI_add 99 i
      have eb : (11 : Int32) * nI i + 10 = nI (11 * i + 10) := cl_ix i 10
      rw [ea, eb, nI_clamp (show i < 2 ^ 31 by omega), nI_clamp (show 11 * 9 + i < 2 ^ 31 by omega), nI_clamp (show 11 * i + 10 < 2 ^ 31 by omega), e1, e2]
      obtain ⟨z1, z2⟩ := i3 i (by omega) hi
      refine ⟨pk_in (11 * 9 + i) 121 (by omega), nm_e ⟨pk_in i 9 hi, pk_in (11 * i + 10) 121 (by omega), nm_e (nm_r (nI_1 i) (hw _ ⟨_, cl_G_u (cl_G_u i1 rfl rfl) rfl rfl, cl_b_u (cl_b_u i2 l2) l1, fun j hj hj9 => ?_, fun S h9 h10 => ?_⟩))⟩⟩
      · rw [cl_u_n (by omega), cl_u_n (by omega), cl_u_n (by omega), cl_u_n (by omega)]
        exact i3 j (by omega) hj9
      · have c1 := cl_C_set (g := g) (S := S) (v := cl_n a2 i) (show 9 < 11 by omega) (show i < 11 by omega)
        have c2 := cl_C_set (g := cl_u g (11 * 9 + i) (cl_n a2 i)) (S := S) (v := cl_n a1 i) (show i < 11 by omega) (show 10 < 11 by omega)
        rw [cl_u_n (show 11 * i + 10 ≠ 11 * 9 + i by omega), z2] at c2
        rw [z1, i4 S h9 h10] at c1
        show _ = cl_sm _ i + (if S i = true then cl_n a1 i else cl_n a2 i)
        cases hS : S i <;> simp [hS, h9, h10] at c1 c2 ⊢ <;> omega
  · intro n i st hi h hw
    refine pk_le 121 i (fun z => absurd z (by omega)) (fun _ => ⟨pk_in i 121 hi, nm_r (by rw [nI_clamp (show i < 2 ^ 31 by omega)]) (nm_r (nI_1 i) (hw (upd st i 0) ?_))⟩)
    intro v hv
    by_cases e : v = i
    · rw [e, pk_us]
      rfl
    · rw [pk_un e]
      exact h v (by omega)
theorem cl_force0 {post : St1 → Prop} {q y : Int32} {a1 a2 a3 a4 a5 a6 a7 a8 a9 a10 : Nat → Int32} {g : Nat → Nat} {p : Nat} (hp : p < 9) (hy : y = 0) (hG : cl_G a8 g)
    (H : ∀ a8' : Nat → Int32, cl_G a8' (cl_u g (11 * 9 + p) 1000000) → post (q, a1, a2, a3, a4, a5, a6, a7, a8', a9, a10)) : wpX_force post (q, a1, a2, a3, a4, a5, a6, a7, a8, a9, a10) (nI p) y := by
  have ea : (99 : Int32) + nI p = nI (11 * 9 + p) := nI_add 99 p
  refine br_t hy ?_
  rw [ea]
  exact ⟨pk_in (11 * 9 + p) 121 (by omega), nm_e (H _ (cl_G_u hG (nI_clamp (by omega)) rfl))⟩
theorem cl_force1 {post : St1 → Prop} {q y : Int32} {a1 a2 a3 a4 a5 a6 a7 a8 a9 a10 : Nat → Int32} {g : Nat → Nat} {p : Nat} (hp : p < 9) (hy : ¬ y = 0) (hG : cl_G a8 g)
    (H : ∀ a8' : Nat → Int32, cl_G a8' (cl_u g (11 * p + 10) 1000000) → post (q, a1, a2, a3, a4, a5, a6, a7, a8', a9, a10)) : wpX_force post (q, a1, a2, a3, a4, a5, a6, a7, a8, a9, a10) (nI p) y := by
  have ea : (11 : Int32) * nI p + 10 = nI (11 * p + 10) := cl_ix p 10
  refine br_f hy ?_
  rw [ea]
  exact ⟨pk_in (11 * p + 10) 121 (by omega), nm_e (H _ (cl_G_u hG (nI_clamp (by omega)) rfl))⟩
end
section
/-! bits of a labelling, and energy -/
theorem cl_su : ∀ n, n < 32 → (((nI n).toUInt32 &&& Int32.toUInt32 31).toBitVec % 32).toNat = n := by decide +kernel
theorem cl_sl : ∀ n, n < 32 → ((nI n &&& 31).toBitVec.smod 32).toNat = n := by decide +kernel
theorem cl_bit_u {m p : Nat} (hm : m < 2 ^ 31) (hp : p < 32) : ((nI m).toUInt32 >>> ((nI p).toUInt32 &&& Int32.toUInt32 31)).toInt32 &&& 1 = nI (m / 2 ^ p % 2) := by
  have h := Nat.div_le_self m (2 ^ p)
  rw [pk_ushrN (by omega) (nI p) p (cl_su p hp), pk_andN (by omega) 1 (by decide)]
theorem cl_bit_s {m p : Nat} (hm : m < 2 ^ 31) (hp : p < 32) : (nI m >>> (nI p &&& 31)) &&& 1 = nI (m / 2 ^ p % 2) := by
  have h := Nat.div_le_self m (2 ^ p)
  rw [pk_shrN hm (nI p &&& 31) p (cl_sl p hp), pk_andN (by omega) 1 (by decide)]
theorem cl_nor (a b : Nat) : nI a ||| nI b = nI (a ||| b) := by
  apply Int32.toBitVec_inj.1
  show BitVec.ofNat 32 a ||| BitVec.ofNat 32 b = BitVec.ofNat 32 (a ||| b)
  apply BitVec.eq_of_getLsbD_eq
  intro i hi
  simp [hi]
theorem cl_nand (a b : Nat) : nI a &&& nI b = nI (a &&& b) := by
  apply Int32.toBitVec_inj.1
  show BitVec.ofNat 32 a &&& BitVec.ofNat 32 b = BitVec.ofNat 32 (a &&& b)
  apply BitVec.eq_of_getLsbD_eq
  intro i hi
  simp [hi]
theorem cl_nxor (a b : Nat) : nI a ^^^ nI b = nI (a ^^^ b) := by
  apply Int32.toBitVec_inj.1
  show BitVec.ofNat 32 a ^^^ BitVec.ofNat 32 b = BitVec.ofNat 32 (a ^^^ b)
  apply BitVec.eq_of_getLsbD_eq
  intro i hi
  simp [hi]
theorem cl_or0 (m : Nat) : nI m ||| 0 = nI m := by
  have h := cl_nor m 0
  rw [Nat.or_zero] at h
  exact h
theorem cl_p2 : ∀ i, i < 9 → 2 ^ i ≤ 256 := by decide
theorem cl_or1 {m i : Nat} (hi : i < 9) (hm : m < 2 ^ i) : nI m ||| ((1 : Int32) <<< (nI i &&& 31)) = nI (m + 2 ^ i) := by
  have h2 := cl_p2 i hi
  have h := pk_shlN (n := 1) (nI i &&& 31) i (cl_sl i (by omega)) (by omega)
  have h' : (1 : Int32) <<< (nI i &&& 31) = nI (1 * 2 ^ i) := h
  rw [h', cl_nor, Nat.one_mul]
  have h3 := Nat.two_pow_add_eq_or_of_lt hm 1
  rw [Nat.mul_one] at h3
  rw [Nat.or_comm, ← h3, Nat.add_comm]
/-- a bit more: the others stay -/
theorem cl_bit_lo {m i p : Nat} (hp : p < i) : (m + 2 ^ i) / 2 ^ p % 2 = m / 2 ^ p % 2 := by
  have e : 2 ^ i = 2 ^ p * (2 * 2 ^ (i - p - 1)) := by
    rw [← Nat.pow_succ', ← Nat.pow_add]
    congr 1
    omega
  rw [e, Nat.add_mul_div_left _ _ (Nat.two_pow_pos p), Nat.add_mul_mod_self_left]
theorem cl_bit_hi {m i : Nat} (hm : m < 2 ^ i) : (m + 2 ^ i) / 2 ^ i % 2 = 1 := by
  rw [Nat.add_div_right _ (Nat.two_pow_pos i), Nat.div_eq_of_lt hm]
theorem cl_bit_0 {m i : Nat} (hm : m < 2 ^ i) : m / 2 ^ i % 2 = 0 := by
  rw [Nat.div_eq_of_lt hm]
/-- a row of bits grows by one -/
theorem cl_bits {m i : Nat} {Z : Nat → Prop} (hm : m < 2 ^ i) (h : ∀ p, p < i → (m / 2 ^ p % 2 = 1 ↔ Z p)) :
    (Z i → m + 2 ^ i < 2 ^ (i + 1) ∧ ∀ p, p < i + 1 → ((m + 2 ^ i) / 2 ^ p % 2 = 1 ↔ Z p)) ∧ (¬ Z i → m < 2 ^ (i + 1) ∧ ∀ p, p < i + 1 → (m / 2 ^ p % 2 = 1 ↔ Z p)) := by
  have e : 2 ^ (i + 1) = 2 ^ i + 2 ^ i := by rw [Nat.pow_succ]; omega
  refine ⟨fun z => ⟨by omega, fun p hp => ?_⟩, fun z => ⟨by omega, fun p hp => ?_⟩⟩
  · by_cases e : p = i
    · subst e
      rw [cl_bit_hi hm]
      exact ⟨fun _ => z, fun _ => rfl⟩
    · rw [cl_bit_lo (by omega)]
      exact h p (by omega)
  · by_cases e : p = i
    · subst e
      rw [cl_bit_0 hm]
      exact ⟨fun t => absurd t (by decide), fun t => absurd t z⟩
    · exact h p (by omega)
/-- no bit of l stands where u has none -/
theorem cl_sub {l u : Nat} (hl : l < 512) (h : ∀ p, p < 9 → l / 2 ^ p % 2 = 1 → u / 2 ^ p % 2 = 1) : nI l &&& (nI u ^^^ (-1)) = 0 := by
  have e1 : (-1 : Int32) = nI 4294967295 := by decide
  rw [e1, cl_nxor, cl_nand]
  have e2 : l &&& (u ^^^ 4294967295) = 0 := by
    apply Nat.eq_of_testBit_eq
    intro i
    rw [Nat.testBit_and, Nat.testBit_xor, Nat.zero_testBit]
    by_cases hi : i < 9
    · by_cases hb : l / 2 ^ i % 2 = 1
      · have t1 : u.testBit i = true := by
          rw [Nat.testBit_eq_decide_div_mod_eq]
          exact decide_eq_true (h i hi hb)
        have t2 : Nat.testBit 4294967295 i = true := (by decide : ∀ i, i < 9 → Nat.testBit 4294967295 i = true) i hi
        rw [t1, t2]
        simp
      · have t1 : l.testBit i = false := by
          rw [Nat.testBit_eq_decide_div_mod_eq]
          exact decide_eq_false hb
        rw [t1]
        rfl
    · have t1 : l.testBit i = false := Nat.testBit_lt_two_pow (Nat.lt_of_lt_of_le (show l < 2 ^ 9 from hl) (Nat.pow_le_pow_right (by omega) (by omega)))
      rw [t1]
      rfl
  rw [e2]
  rfl
/-- the side of label 0 in a labelling m -/
def cl_S (m v : Nat) : Bool := decide (v = 9 ∨ (v < 9 ∧ m / 2 ^ v % 2 = 0))
theorem cl_S_9 (m : Nat) : cl_S m 9 = true := decide_eq_true (Or.inl rfl)
theorem cl_S_10 (m : Nat) : cl_S m 10 = false := decide_eq_false (fun z => by omega)
theorem cl_S_t {m p : Nat} (hp : p < 9) (h : m / 2 ^ p % 2 = 0) : cl_S m p = true := decide_eq_true (Or.inr ⟨hp, h⟩)
theorem cl_S_f {m p : Nat} (hp : p < 9) (h : ¬ m / 2 ^ p % 2 = 0) : cl_S m p = false := decide_eq_false (fun z => by
  rcases z with z | z
  · omega
  · exact h z.2)

theorem cl_e101 {post : Int32 → Prop} {J : Int32 → Int32 → Prop} {x1 q : Int32} {a1 a2 a3 a4 a5 a6 a7 a8 a9 a10 : Nat → Int32} {i bi bj z t : Nat} (hi : i < 16) (hbi : bi < 2) (hbj : bj < 2) (h3 : cl_B 16 1 a3) (h7 : cl_B 16 100 a7)
    (H : J (nI (t + z + (if cl_n a3 i = 0 then 0 else if bj < bi then cl_n a7 i else 0))) (nI (i + 1))) :
    wX_energy_101 post J x1 (nI i) (nI bi) (nI bj) (nI z) (nI t) q a1 a2 a3 a4 a5 a6 a7 a8 a9 a10 := by
  obtain ⟨e3, l3⟩ := cl_B_n h3 hi
  obtain ⟨e7, l7⟩ := cl_B_n h7 hi
  refine nm_r (nI_add t z) (And.intro (pk_in i 16 hi) ?_)
  rw [nI_clamp (show i < 2 ^ 31 by omega)]
  refine pk_eq (cl_n a3 i) 0 (fun e => nm_r (nI_add (t + z) 0) (nm_r (nI_1 i) ?_)) (fun e => pk_le bi bj (fun e2 => nm_r (nI_add (t + z) 0) (nm_r (nI_1 i) ?_)) (fun e2 => ⟨pk_in i 16 hi, nm_r (by rw [e7, nI_add]) (nm_r (nI_1 i) ?_)⟩)) e3
  · rw [if_pos e] at H
    exact H
  · rw [if_neg e, if_neg (by omega)] at H
    exact H
  · rw [if_neg e, if_pos e2] at H
    exact H
/-- one tie's share, by the two bits -/
theorem cl_E2_bits {a3 a4 a5 a6 a7 : Nat → Int32} {m i : Nat} (h4 : cl_n a4 i < 9) (h5 : cl_n a5 i < 9) : cl_E2 a3 a4 a5 a6 a7 (cl_S m) i =
    if cl_n a3 i = 0 then 0 else (if m / 2 ^ cl_n a4 i % 2 < m / 2 ^ cl_n a5 i % 2 then cl_n a6 i else 0) + (if m / 2 ^ cl_n a5 i % 2 < m / 2 ^ cl_n a4 i % 2 then cl_n a7 i else 0) := by
  unfold cl_E2
  by_cases e : cl_n a3 i = 0
  · rw [if_pos e, if_pos e]
  · rw [if_neg e, if_neg e]
    by_cases b4 : m / 2 ^ cl_n a4 i % 2 = 0
    · rw [cl_S_t h4 b4, b4]
      by_cases b5 : m / 2 ^ cl_n a5 i % 2 = 0
      · rw [cl_S_t h5 b5, b5]
        simp
      · rw [cl_S_f h5 b5, show m / 2 ^ cl_n a5 i % 2 = 1 by omega]
        simp
    · rw [cl_S_f h4 b4, show m / 2 ^ cl_n a4 i % 2 = 1 by omega]
      by_cases b5 : m / 2 ^ cl_n a5 i % 2 = 0
      · rw [cl_S_t h5 b5, b5]
        simp
      · rw [cl_S_f h5 b5, show m / 2 ^ cl_n a5 i % 2 = 1 by omega]
        simp
theorem cl_energy {post : Int32 → Prop} {q : Int32} {a1 a2 a3 a4 a5 a6 a7 a8 a9 a10 : Nat → Int32} {m : Nat} (hm : m < 512) (hV : cl_V a1 a2 a3 a4 a5 a6 a7) (H : post (nI (cl_E a1 a2 a3 a4 a5 a6 a7 (cl_S m)))) :
    wpX_energy post (q, a1, a2, a3, a4, a5, a6, a7, a8, a9, a10) (nI m) := by
  obtain ⟨v1, v2, v3, v4, v5, v6, v7⟩ := hV
  show ∃ n, wX_energy_4 post (nI m) q a1 a2 a3 a4 a5 a6 a7 a8 a9 a10 n 0 0
  refine pk_loop (fun n i st => wX_energy_4 post (nI m) q a1 a2 a3 a4 a5 a6 a7 a8 a9 a10 n st (nI i)) (fun i st => st = nI (cl_sm (cl_E1 a1 a2 (cl_S m)) i)) 9 0 0 (by omega) rfl ?_ ?_
  · rintro n st rfl
    refine pk_le 9 9 (fun _ => ?_) (fun z => absurd z (by omega))
    refine pk_loop (fun n i st => wX_energy_44 post (nI m) q a1 a2 a3 a4 a5 a6 a7 a8 a9 a10 n st (nI i)) (fun i st => st = nI (cl_sm (cl_E1 a1 a2 (cl_S m)) 9 + cl_sm (cl_E2 a3 a4 a5 a6 a7 (cl_S m)) i)) 16 0 _ (by omega) rfl ?_ ?_
    · rintro n st rfl
      exact pk_le 16 16 (fun _ => H) (fun z => absurd z (by omega))
    · rintro n i st hi rfl hw
      obtain ⟨e3, l3⟩ := cl_B_n v3 hi
      obtain ⟨e4, l4⟩ := cl_B_n v4 hi
      obtain ⟨e5, l5⟩ := cl_B_n v5 hi
      obtain ⟨e6, l6⟩ := cl_B_n v6 hi
      have hw' := hw (nI (cl_sm (cl_E1 a1 a2 (cl_S m)) 9 + (cl_sm (cl_E2 a3 a4 a5 a6 a7 (cl_S m)) i + cl_E2 a3 a4 a5 a6 a7 (cl_S m) i))) rfl
      rw [cl_E2_bits (by omega) (by omega)] at hw'
      have p1 : vp_in (nI i) 16 := pk_in i 16 hi
      refine pk_le 16 i (fun z => absurd z (by omega)) (fun _ => ⟨p1, ?_⟩)
      rw [nI_clamp (show i < 2 ^ 31 by omega), e4, e5, cl_bit_u (by omega) (by omega), cl_bit_u (by omega) (by omega)]
      refine nm_e ⟨p1, nm_e ⟨p1, ?_⟩⟩
      have d1 : m / 2 ^ cl_n a4 i % 2 < 2 := Nat.mod_lt _ (by omega)
      have d2 : m / 2 ^ cl_n a5 i % 2 < 2 := Nat.mod_lt _ (by omega)
      refine pk_eq (cl_n a3 i) 0 (fun e => ?_) (fun e => pk_le (m / 2 ^ cl_n a5 i % 2) (m / 2 ^ cl_n a4 i % 2) (fun e2 => ?_) (fun e2 => ⟨p1, ?_⟩)) e3
      · unfold wX_energy_100
        refine cl_e101 (z := 0) hi d1 d2 v3 v7 ?_
        rw [if_pos e] at hw' ⊢
        exact hw'
      · unfold wX_energy_100
        refine cl_e101 (z := 0) hi d1 d2 v3 v7 ?_
        rw [if_neg e, if_neg (show ¬ m / 2 ^ cl_n a4 i % 2 < m / 2 ^ cl_n a5 i % 2 by omega), Nat.zero_add, ← Nat.add_assoc] at hw'
        rw [if_neg e]
        exact hw'
      · rw [e6]
        refine cl_e101 hi d1 d2 v3 v7 ?_
        rw [if_neg e, if_pos e2, ← Nat.add_assoc, ← Nat.add_assoc] at hw'
        rw [if_neg e]
        exact hw'
  · rintro n i st hi rfl hw
    obtain ⟨e1, l1⟩ := cl_B_n v1 hi
    obtain ⟨e2, l2⟩ := cl_B_n v2 hi
    have hw' := hw (nI (cl_sm (cl_E1 a1 a2 (cl_S m)) i + (if cl_S m i = true then cl_n a1 i else cl_n a2 i))) rfl
    refine pk_le 9 i (fun z => absurd z (by omega)) (fun _ => ?_)
    rw [nI_clamp (show i < 2 ^ 31 by omega), cl_bit_u (by omega) (by omega)]
    have d1 : m / 2 ^ i % 2 < 2 := Nat.mod_lt _ (by omega)
    refine pk_eq (m / 2 ^ i % 2) 0 (fun e => ⟨pk_in i 9 hi, nm_r (by rw [e1, nI_add]) (nm_r (nI_1 i) ?_)⟩) (fun e => ⟨pk_in i 9 hi, nm_r (by rw [e2, nI_add]) (nm_r (nI_1 i) ?_)⟩)
    · rw [if_pos (cl_S_t hi e)] at hw'
      exact hw'
    · rw [if_neg (by rw [cl_S_f hi e]; decide)] at hw'
      exact hw'
end
section
/-! least, lower, upper, with, apart: what they answer, in terms of the energy alone -/
theorem cl_E2_eq {a3 a4 a5 a6 a7 : Nat → Int32} {S : Nat → Bool} {k : Nat} (h : S (cl_n a4 k) = S (cl_n a5 k)) : cl_E2 a3 a4 a5 a6 a7 S k = 0 := by
  unfold cl_E2
  split
  · rfl
  · rw [if_neg (fun z => absurd (z.1.symm.trans (h.trans z.2)) (by decide)), if_neg (fun z => absurd (z.1.symm.trans (h.symm.trans z.2)) (by decide))]
theorem cl_E_1 {a1 a2 a3 a4 a5 a6 a7 : Nat → Int32} (hV : cl_V a1 a2 a3 a4 a5 a6 a7) : cl_E a1 a2 a3 a4 a5 a6 a7 (fun v => decide (v = 9)) ≤ 900 := by
  obtain ⟨v1, v2, v3, v4, v5, v6, v7⟩ := hV
  have h1 : cl_sm (cl_E1 a1 a2 (fun v => decide (v = 9))) 9 ≤ 9 * 100 := cl_sm_bd (fun k hk => by
    unfold cl_E1
    rw [if_neg (fun z => absurd (of_decide_eq_true z) (show ¬ k = 9 by omega))]
    exact (cl_B_n v2 hk).2)
  have h2 : cl_sm (cl_E2 a3 a4 a5 a6 a7 (fun v => decide (v = 9))) 16 = 0 := cl_sm_0 (fun k hk => by
    have l4 := (cl_B_n v4 hk).2
    have l5 := (cl_B_n v5 hk).2
    exact cl_E2_eq ((decide_eq_false (show ¬ cl_n a4 k = 9 by omega)).trans (decide_eq_false (show ¬ cl_n a5 k = 9 by omega)).symm))
  unfold cl_E
  omega
theorem cl_E_0 {a1 a2 a3 a4 a5 a6 a7 : Nat → Int32} (hV : cl_V a1 a2 a3 a4 a5 a6 a7) : cl_E a1 a2 a3 a4 a5 a6 a7 (fun v => decide (v ≠ 10)) ≤ 900 := by
  obtain ⟨v1, v2, v3, v4, v5, v6, v7⟩ := hV
  have h1 : cl_sm (cl_E1 a1 a2 (fun v => decide (v ≠ 10))) 9 ≤ 9 * 100 := cl_sm_bd (fun k hk => by
    unfold cl_E1
    rw [if_pos (decide_eq_true (show k ≠ 10 by omega))]
    exact (cl_B_n v1 hk).2)
  have h2 : cl_sm (cl_E2 a3 a4 a5 a6 a7 (fun v => decide (v ≠ 10))) 16 = 0 := cl_sm_0 (fun k hk => by
    have l4 := (cl_B_n v4 hk).2
    have l5 := (cl_B_n v5 hk).2
    exact cl_E2_eq ((decide_eq_true (show cl_n a4 k ≠ 10 by omega)).trans (decide_eq_true (show cl_n a5 k ≠ 10 by omega)).symm))
  unfold cl_E
  omega
section
variable {a1 a2 a3 a4 a5 a6 a7 : Nat → Int32}
/-- fill in the plain network ends at the least energy -/
theorem cl_plain {g0 g : Nat → Nat} {t : Nat} (hV : cl_V a1 a2 a3 a4 a5 a6 a7) (hC : ∀ S : Nat → Bool, S 9 = true → S 10 = false → cl_C g0 S = cl_E a1 a2 a3 a4 a5 a6 a7 S) (hF : cl_F g0 g t) (hR : 1000 ≤ t ∨ ¬ cl_R g 9 10) :
    t ≤ 900 ∧ ¬ cl_R g 9 10 ∧ ∀ S : Nat → Bool, S 9 = true → S 10 = false → t ≤ cl_E a1 a2 a3 a4 a5 a6 a7 S := by
  have hle : ∀ S : Nat → Bool, S 9 = true → S 10 = false → t ≤ cl_E a1 a2 a3 a4 a5 a6 a7 S := fun S h9 h10 => by
    rw [← hC S h9 h10]
    exact cl_F_le hF h9 h10
  have h1 := hle (fun v => decide (v = 9)) rfl rfl
  have h2 := cl_E_1 hV
  refine ⟨by omega, ?_, hle⟩
  rcases hR with k | k
  · omega
  · exact k
theorem cl_least {post : Int32 → St1 → Prop} {q : Int32} {a8 a9 a10 : Nat → Int32} (hV : cl_V a1 a2 a3 a4 a5 a6 a7)
    (H : ∀ (t : Nat) (q' : Int32) (a8' a9' a10' : Nat → Int32), t ≤ 900 → (∀ S : Nat → Bool, S 9 = true → S 10 = false → t ≤ cl_E a1 a2 a3 a4 a5 a6 a7 S) → (∃ S : Nat → Bool, S 9 = true ∧ S 10 = false ∧ cl_E a1 a2 a3 a4 a5 a6 a7 S = t) → post (nI t) (q', a1, a2, a3, a4, a5, a6, a7, a8', a9', a10')) :
    wpX_least post (q, a1, a2, a3, a4, a5, a6, a7, a8, a9, a10) := by
  refine cl_build hV (fun g0 b8 hG hb hC => ?_)
  refine cl_fill hG (cl_b_le hb (by omega)) (fun t g q' c8 c9 c10 ht hG' hb' hF hR => ?_)
  obtain ⟨k1, k2, k3⟩ := cl_plain hV hC hF hR
  obtain ⟨s1, s2, s3⟩ := cl_up hF k2
  exact H t q' c8 c9 c10 k1 k3 ⟨_, s1, s2, by rw [← hC _ s1 s2]; exact s3⟩
theorem cl_lower {post : Int32 → St1 → Prop} {q : Int32} {a8 a9 a10 : Nat → Int32} (hV : cl_V a1 a2 a3 a4 a5 a6 a7)
    (H : ∀ (m : Nat) (q' : Int32) (a8' a9' a10' : Nat → Int32), m < 512 → (∀ S : Nat → Bool, S 9 = true → S 10 = false → cl_E a1 a2 a3 a4 a5 a6 a7 (cl_S m) ≤ cl_E a1 a2 a3 a4 a5 a6 a7 S) →
      (∀ p, p < 9 → m / 2 ^ p % 2 = 1 → ∀ S : Nat → Bool, S 9 = true → S 10 = false → S p = true → cl_E a1 a2 a3 a4 a5 a6 a7 (cl_S m) < cl_E a1 a2 a3 a4 a5 a6 a7 S) → post (nI m) (q', a1, a2, a3, a4, a5, a6, a7, a8', a9', a10')) :
    wpX_lower post (q, a1, a2, a3, a4, a5, a6, a7, a8, a9, a10) := by
  refine cl_build hV (fun g0 b8 hG hb hC => ?_)
  refine cl_fill hG (cl_b_le hb (by omega)) (fun t g q' c8 c9 c10 ht hG' hb' hF hR => ?_)
  obtain ⟨k1, k2, k3⟩ := cl_plain hV hC hF hR
  obtain ⟨s1, s2, s3⟩ := cl_lo hF k2
  refine pk_loop (σ := Int32 × Int32 × (Nat → Int32) × (Nat → Int32)) (fun n i st => wX_lower_13 post n st.1 (nI i) st.2.1 a1 a2 a3 a4 a5 a6 a7 c8 st.2.2.1 st.2.2.2)
    (fun i st => ∃ m, st.1 = nI m ∧ m < 2 ^ i ∧ ∀ p, p < i → (m / 2 ^ p % 2 = 1 ↔ cl_R g p 10)) 9 0 (nI 0, q', c9, c10) (by omega) ⟨0, rfl, by decide, fun p hp => absurd hp (by omega)⟩ ?_ ?_
  · rintro n ⟨x, q2, d9, d10⟩ ⟨m, e, hm, hbits⟩
    dsimp only at e
    subst e
    have ext : ∀ v, v < 11 → cl_S m v = cl_D (fun v => ¬ cl_R g v 10) v := by
      intro v hv
      by_cases e9 : v = 9
      · rw [e9, s1, cl_S_9]
      · by_cases e10 : v = 10
        · rw [e10, s2, cl_S_10]
        · have hv9 : v < 9 := by omega
          by_cases b : m / 2 ^ v % 2 = 0
          · rw [cl_S_t hv9 b, cl_D_t.mpr (fun z => by
              have := (hbits v hv9).mpr z
              omega)]
          · rw [cl_S_f hv9 b, cl_D_f.mpr (fun z => z ((hbits v hv9).mp (by omega)))]
    have e1 : cl_E a1 a2 a3 a4 a5 a6 a7 (cl_S m) = t := by
      rw [← hC _ (cl_S_9 m) (cl_S_10 m), cl_C_ext ext]
      exact s3
    refine pk_le 9 9 (fun _ => H m q2 c8 d9 d10 hm (fun S h9 h10 => ?_) (fun p hp hb1 S h9 h10 hS => ?_)) (fun z => absurd z (by omega))
    · rw [e1]
      exact k3 S h9 h10
    · rw [e1, ← hC S h9 h10, ← hF S h9 h10]
      have := cl_C_pos ((hbits p hp).mp hb1) hS h10
      omega
  · rintro n i ⟨x, q2, d9, d10⟩ hi ⟨m, e, hm, hbits⟩ hw
    dsimp only at e
    subst e
    have hgrow := cl_bits (Z := fun p => cl_R g p 10) hm hbits
    refine pk_le 9 i (fun z => absurd z (by omega)) (fun _ => ?_)
    refine cl_search i (by omega) hG' hb' (by omega) (fun q3 e9 e10 hW => ?_)
    rcases cl_W_R (v := 10) hW (by omega) (by omega) with k | k
    · exact br_f k.2.1 (nm_r (cl_or1 hi hm) (nm_r (nI_1 i) (hw (nI (m + 2 ^ i), q3, e9, e10) ⟨m + 2 ^ i, rfl, hgrow.1 k.1⟩)))
    · exact br_t k.2.1 (nm_r (cl_or0 m) (nm_r (nI_1 i) (hw (nI m, q3, e9, e10) ⟨m, rfl, hgrow.2 k.1⟩)))
theorem cl_upper {post : Int32 → St1 → Prop} {q : Int32} {a8 a9 a10 : Nat → Int32} (hV : cl_V a1 a2 a3 a4 a5 a6 a7)
    (H : ∀ (m : Nat) (q' : Int32) (a8' a9' a10' : Nat → Int32), m < 512 → (∀ S : Nat → Bool, S 9 = true → S 10 = false → cl_E a1 a2 a3 a4 a5 a6 a7 (cl_S m) ≤ cl_E a1 a2 a3 a4 a5 a6 a7 S) →
      (∀ p, p < 9 → m / 2 ^ p % 2 = 0 → ∀ S : Nat → Bool, S 9 = true → S 10 = false → S p = false → cl_E a1 a2 a3 a4 a5 a6 a7 (cl_S m) < cl_E a1 a2 a3 a4 a5 a6 a7 S) → post (nI m) (q', a1, a2, a3, a4, a5, a6, a7, a8', a9', a10')) :
    wpX_upper post (q, a1, a2, a3, a4, a5, a6, a7, a8, a9, a10) := by
  refine cl_build hV (fun g0 b8 hG hb hC => ?_)
  refine cl_fill hG (cl_b_le hb (by omega)) (fun t g q' c8 c9 c10 ht hG' hb' hF hR => ?_)
  obtain ⟨k1, k2, k3⟩ := cl_plain hV hC hF hR
  obtain ⟨s1, s2, s3⟩ := cl_up hF k2
  refine cl_search 9 (by omega) hG' hb' (by omega) (fun q3 e9 e10 hW => ?_)
  refine pk_loop (fun n i st => wX_upper_19 post q3 a1 a2 a3 a4 a5 a6 a7 c8 e9 e10 n st (nI i))
    (fun i st => ∃ m, st = nI m ∧ m < 2 ^ i ∧ ∀ p, p < i → (m / 2 ^ p % 2 = 1 ↔ ¬ cl_R g 9 p)) 9 0 (nI 0) (by omega) ⟨0, rfl, by decide, fun p hp => absurd hp (by omega)⟩ ?_ ?_
  · rintro n x ⟨m, rfl, hm, hbits⟩
    have ext : ∀ v, v < 11 → cl_S m v = cl_D (cl_R g 9) v := by
      intro v hv
      by_cases e9 : v = 9
      · rw [e9, s1, cl_S_9]
      · by_cases e10 : v = 10
        · rw [e10, s2, cl_S_10]
        · have hv9 : v < 9 := by omega
          by_cases b : m / 2 ^ v % 2 = 0
          · rw [cl_S_t hv9 b, cl_D_t.mpr (Classical.byContradiction (fun z => by
              have := (hbits v hv9).mpr z
              omega))]
          · rw [cl_S_f hv9 b, cl_D_f.mpr ((hbits v hv9).mp (by omega))]
    have e1 : cl_E a1 a2 a3 a4 a5 a6 a7 (cl_S m) = t := by
      rw [← hC _ (cl_S_9 m) (cl_S_10 m), cl_C_ext ext]
      exact s3
    refine pk_le 9 9 (fun _ => H m q3 c8 e9 e10 hm (fun S h9 h10 => ?_) (fun p hp hb1 S h9 h10 hS => ?_)) (fun z => absurd z (by omega))
    · rw [e1]
      exact k3 S h9 h10
    · rw [e1, ← hC S h9 h10, ← hF S h9 h10]
      have hRp : cl_R g 9 p := Classical.byContradiction (fun z => by
        have := (hbits p hp).mpr z
        omega)
      have := cl_C_pos hRp h9 hS
      omega
  · rintro n i x hi ⟨m, rfl, hm, hbits⟩ hw
    have hgrow := cl_bits (Z := fun p => ¬ cl_R g 9 p) hm hbits
    refine pk_le 9 i (fun z => absurd z (by omega)) (fun _ => ⟨pk_in i 11 (by omega), ?_⟩)
    rw [nI_clamp (show i < 2 ^ 31 by omega)]
    rcases cl_W_R (v := i) hW (by omega) (by omega) with k | k
    · exact br_t k.2.2 (nm_r (cl_or0 m) (nm_r (nI_1 i) (hw (nI m) ⟨m, rfl, hgrow.2 (fun z => z k.1)⟩)))
    · exact br_f k.2.2 (nm_r (cl_or1 hi hm) (nm_r (nI_1 i) (hw (nI (m + 2 ^ i)) ⟨m + 2 ^ i, rfl, hgrow.1 k.1⟩)))
theorem cl_isPlace {post : Int32 → Prop} {p : Nat} (hp : p < 9) (H : post 1) : wpX_isPlace post () (nI p) :=
  br_f (nI_pos (by omega)) (pk_lt 8 p (fun z => absurd z (by omega)) (fun _ => H))
theorem cl_with0 {post : Int32 → St1 → Prop} {q : Int32} {a8 a9 a10 : Nat → Int32} {p : Nat} (hp : p < 9) (hV : cl_V a1 a2 a3 a4 a5 a6 a7)
    (H : ∀ (t : Nat) (q' : Int32) (a8' a9' a10' : Nat → Int32), t ≤ 900 → (∀ S : Nat → Bool, S 9 = true → S 10 = false → S p = true → t ≤ cl_E a1 a2 a3 a4 a5 a6 a7 S) → (∃ S : Nat → Bool, S 9 = true ∧ S 10 = false ∧ S p = true ∧ cl_E a1 a2 a3 a4 a5 a6 a7 S = t) → post (nI t) (q', a1, a2, a3, a4, a5, a6, a7, a8', a9', a10')) :
    wpX_with post (q, a1, a2, a3, a4, a5, a6, a7, a8, a9, a10) (nI p) 0 := by
  unfold wpX_with
  refine cl_isPlace hp ?_
  refine br_f (by decide) ?_
  refine cl_build hV (fun g0 b8 hG hb hC => ?_)
  refine cl_force0 hp (by decide) hG (fun d8 hG1 => ?_)
  refine cl_fill hG1 (cl_b_u (cl_b_le hb (by omega)) (by omega)) (fun t g q' c8 c9 c10 ht hG' hb' hF hR => ?_)
  have hle : ∀ S : Nat → Bool, S 9 = true → S 10 = false → S p = true → t ≤ cl_E a1 a2 a3 a4 a5 a6 a7 S := fun S h9 h10 hS => by
    have h := cl_F_le hF h9 h10
    rw [cl_C_out (by omega) (by omega) (fun z => by rw [hS] at z; exact absurd z.2 (by decide)), hC S h9 h10] at h
    exact h
  have h1 := hle (fun v => decide (v ≠ 10)) rfl rfl (decide_eq_true (show p ≠ 10 by omega))
  have h2 := cl_E_0 hV
  have hR' : ¬ cl_R g 9 10 := by
    rcases hR with k | k
    · omega
    · exact k
  obtain ⟨s1, s2, s3⟩ := cl_up hF hR'
  have hS : cl_D (cl_R g 9) p = true := by
    cases e : cl_D (cl_R g 9) p
    · have h3 := cl_C_get (g := cl_u g0 (11 * 9 + p) 1000000) (x := 9) (y := p) (by omega) (by omega) s1 e
      rw [cl_u_s] at h3
      omega
    · rfl
  refine H t q' c8 c9 c10 (by omega) hle ⟨_, s1, s2, hS, ?_⟩
  rw [cl_C_out (by omega) (by omega) (fun z => by rw [hS] at z; exact absurd z.2 (by decide)), hC _ s1 s2] at s3
  exact s3
theorem cl_with1 {post : Int32 → St1 → Prop} {q : Int32} {a8 a9 a10 : Nat → Int32} {p : Nat} (hp : p < 9) (hV : cl_V a1 a2 a3 a4 a5 a6 a7)
    (H : ∀ (t : Nat) (q' : Int32) (a8' a9' a10' : Nat → Int32), t ≤ 900 → (∀ S : Nat → Bool, S 9 = true → S 10 = false → S p = false → t ≤ cl_E a1 a2 a3 a4 a5 a6 a7 S) → (∃ S : Nat → Bool, S 9 = true ∧ S 10 = false ∧ S p = false ∧ cl_E a1 a2 a3 a4 a5 a6 a7 S = t) → post (nI t) (q', a1, a2, a3, a4, a5, a6, a7, a8', a9', a10')) :
    wpX_with post (q, a1, a2, a3, a4, a5, a6, a7, a8, a9, a10) (nI p) 1 := by
  unfold wpX_with
  refine cl_isPlace hp ?_
  refine br_f (by decide) ?_
  refine cl_build hV (fun g0 b8 hG hb hC => ?_)
  refine cl_force1 hp (by decide) hG (fun d8 hG1 => ?_)
  refine cl_fill hG1 (cl_b_u (cl_b_le hb (by omega)) (by omega)) (fun t g q' c8 c9 c10 ht hG' hb' hF hR => ?_)
  have hle : ∀ S : Nat → Bool, S 9 = true → S 10 = false → S p = false → t ≤ cl_E a1 a2 a3 a4 a5 a6 a7 S := fun S h9 h10 hS => by
    have h := cl_F_le hF h9 h10
    rw [cl_C_out (by omega) (by omega) (fun z => by rw [hS] at z; exact absurd z.1 (by decide)), hC S h9 h10] at h
    exact h
  have h1 := hle (fun v => decide (v = 9)) rfl rfl (decide_eq_false (show ¬ p = 9 by omega))
  have h2 := cl_E_1 hV
  have hR' : ¬ cl_R g 9 10 := by
    rcases hR with k | k
    · omega
    · exact k
  obtain ⟨s1, s2, s3⟩ := cl_up hF hR'
  have hS : cl_D (cl_R g 9) p = false := by
    cases e : cl_D (cl_R g 9) p
    · rfl
    · have h3 := cl_C_get (g := cl_u g0 (11 * p + 10) 1000000) (x := p) (y := 10) (by omega) (by omega) e s2
      rw [cl_u_s] at h3
      omega
  refine H t q' c8 c9 c10 (by omega) hle ⟨_, s1, s2, hS, ?_⟩
  rw [cl_C_out (by omega) (by omega) (fun z => by rw [hS] at z; exact absurd z.1 (by decide)), hC _ s1 s2] at s3
  exact s3
/-- with two places forced: no less than the least energy -/
def cl_Ap (a1 a2 a3 a4 a5 a6 a7 : Nat → Int32) (t : Nat) : Prop := ∀ m, m ≤ 1000 → (∀ S : Nat → Bool, S 9 = true → S 10 = false → m ≤ cl_E a1 a2 a3 a4 a5 a6 a7 S) → m ≤ t
theorem cl_ap {g0 g1 g : Nat → Nat} {t : Nat} (hC : ∀ S : Nat → Bool, S 9 = true → S 10 = false → cl_C g0 S = cl_E a1 a2 a3 a4 a5 a6 a7 S) (hg : ∀ k, k < 121 → g0 k ≤ g1 k) (hF : cl_F g1 g t) (hR : 1000 ≤ t ∨ ¬ cl_R g 9 10) : cl_Ap a1 a2 a3 a4 a5 a6 a7 t := by
  intro m hm hS
  rcases hR with k | k
  · omega
  · obtain ⟨s1, s2, s3⟩ := cl_up hF k
    have h1 := cl_C_mono (S := cl_D (cl_R g 9)) hg
    have h2 := hS _ s1 s2
    have h3 := hC _ s1 s2
    omega
theorem cl_u_ge {g : Nat → Nat} {k v b : Nat} (hb : cl_b g b) (hv : b ≤ v) : ∀ j, j < 121 → g j ≤ cl_u g k v j := by
  intro j hj
  by_cases e : j = k
  · have := hb j hj
    rw [e, cl_u_s]
    rw [e] at this
    omega
  · rw [cl_u_n e]
    exact Nat.le_refl _
theorem cl_apart {post : Int32 → St1 → Prop} {q : Int32} {a8 a9 a10 : Nat → Int32} {i j : Nat} (hi : i < 9) (hj : j < 9) (hij : i ≠ j) (hV : cl_V a1 a2 a3 a4 a5 a6 a7)
    (H : ∀ (t : Nat) (q' : Int32) (a8' a9' a10' : Nat → Int32), t < 2 ^ 31 → cl_Ap a1 a2 a3 a4 a5 a6 a7 t → post (nI t) (q', a1, a2, a3, a4, a5, a6, a7, a8', a9', a10')) :
    wpX_apart post (q, a1, a2, a3, a4, a5, a6, a7, a8, a9, a10) (nI i) (nI j) := by
  unfold wpX_apart
  refine cl_isPlace hi ?_
  refine br_f (by decide) ?_
  refine cl_isPlace hj ?_
  refine br_f (by decide) ?_
  refine pk_eq i j (fun z => absurd z hij) (fun _ => ?_)
  refine cl_build hV (fun g0 b8 hG hb hC => ?_)
  refine cl_force0 hi rfl hG (fun d8 hG1 => ?_)
  refine cl_force1 hj (by decide) hG1 (fun e8 hG2 => ?_)
  have hB1 : cl_b (cl_u g0 (11 * 9 + i) 1000000) 1000000 := cl_b_u (cl_b_le hb (by omega)) (by omega)
  refine cl_fill hG2 (cl_b_u hB1 (by omega)) (fun t g q' c8 c9 c10 ht hG' hb' hF hR => ?_)
  have A1 := cl_ap hC (fun k hk => Nat.le_trans (cl_u_ge (k := 11 * 9 + i) hb (by omega) k hk) (cl_u_ge hB1 (by omega) k hk)) hF hR
  refine cl_build hV (fun g0' b8' hG' hb' hC' => ?_)
  refine cl_force1 hi (by decide) hG' (fun d8' hG1' => ?_)
  refine cl_force0 hj rfl hG1' (fun e8' hG2' => ?_)
  have hB1' : cl_b (cl_u g0' (11 * i + 10) 1000000) 1000000 := cl_b_u (cl_b_le hb' (by omega)) (by omega)
  refine cl_fill hG2' (cl_b_u hB1' (by omega)) (fun t' g' q2 f8 f9 f10 ht' _ _ hF' hR' => ?_)
  have A2 := cl_ap hC' (fun k hk => Nat.le_trans (cl_u_ge (k := 11 * i + 10) hb' (by omega) k hk) (cl_u_ge hB1' (by omega) k hk)) hF' hR'
  exact pk_le t' t (fun _ => H t' q2 f8 f9 f10 ht' A2) (fun _ => H t q2 f8 f9 f10 ht A1)
end
end
section
/-! the law's checks after each call -/
section
variable {a1 a2 a3 a4 a5 a6 a7 : Nat → Int32}
theorem cl_h57 {post : Int32 → St1 → Prop} {q : Int32} {a8 a9 a10 : Nat → Int32} {t lo up : Nat} (hV : cl_V a1 a2 a3 a4 a5 a6 a7) (ht : t ≤ 900) (hlo : lo < 512) (hup : up < 512)
    (t1 : ∀ S : Nat → Bool, S 9 = true → S 10 = false → t ≤ cl_E a1 a2 a3 a4 a5 a6 a7 S) (elo : cl_E a1 a2 a3 a4 a5 a6 a7 (cl_S lo) = t) (eup : cl_E a1 a2 a3 a4 a5 a6 a7 (cl_S up) = t)
    (l2 : ∀ p, p < 9 → lo / 2 ^ p % 2 = 1 → ∀ S : Nat → Bool, S 9 = true → S 10 = false → S p = true → t < cl_E a1 a2 a3 a4 a5 a6 a7 S)
    (u2 : ∀ p, p < 9 → up / 2 ^ p % 2 = 0 → ∀ S : Nat → Bool, S 9 = true → S 10 = false → S p = false → t < cl_E a1 a2 a3 a4 a5 a6 a7 S)
    (H : ∀ (q' : Int32) (a8' a9' a10' : Nat → Int32), post 1 (q', a1, a2, a3, a4, a5, a6, a7, a8', a9', a10')) :
    ∃ n, wL_holds_57 post (nI t) (nI lo) (nI up) n 0 q a1 a2 a3 a4 a5 a6 a7 a8 a9 a10 := by
  refine pk_loop (σ := Int32 × (Nat → Int32) × (Nat → Int32) × (Nat → Int32)) (fun n i st => wL_holds_57 post (nI t) (nI lo) (nI up) n (nI i) st.1 a1 a2 a3 a4 a5 a6 a7 st.2.1 st.2.2.1 st.2.2.2)
    (fun _ _ => True) 9 0 (q, a8, a9, a10) (by omega) trivial ?_ ?_
  · rintro n ⟨q, a8, a9, a10⟩ _
    exact pk_le 9 9 (fun _ => H _ _ _ _) (fun z => absurd z (by omega))
  · rintro n i ⟨q, a8, a9, a10⟩ hi _ hw
    refine pk_le 9 i (fun z => absurd z (by omega)) (fun _ => ?_)
    refine cl_with0 hi hV (fun z q1 b8 b9 b10 hz z1 z2 => ?_)
    refine cl_with1 hi hV (fun o q2 c8 c9 c10 ho o1 o2 => ?_)
    have tz : t ≤ z := by
      obtain ⟨S, s1, s2, s3, s4⟩ := z2
      have := t1 S s1 s2
      omega
    have to : t ≤ o := by
      obtain ⟨S, s1, s2, s3, s4⟩ := o2
      have := t1 S s1 s2
      omega
    have f1 : up / 2 ^ i % 2 = 0 → t < o := fun h => by
      obtain ⟨S, s1, s2, s3, s4⟩ := o2
      have := u2 i hi h S s1 s2 s3
      omega
    have f2 : ¬ up / 2 ^ i % 2 = 0 → o ≤ t := fun h => by
      have := o1 _ (cl_S_9 up) (cl_S_10 up) (cl_S_f hi h)
      omega
    have f3 : lo / 2 ^ i % 2 = 1 → t < z := fun h => by
      obtain ⟨S, s1, s2, s3, s4⟩ := z2
      have := l2 i hi h S s1 s2 s3
      omega
    have f4 : ¬ lo / 2 ^ i % 2 = 1 → z ≤ t := fun h => by
      have := z1 _ (cl_S_9 lo) (cl_S_10 lo) (cl_S_t hi (by omega))
      omega
    have f5 : z ≤ t ∨ o ≤ t := by
      by_cases h : lo / 2 ^ i % 2 = 1
      · right
        have : cl_S lo i = false := cl_S_f hi (by omega)
        have := o1 _ (cl_S_9 lo) (cl_S_10 lo) this
        omega
      · exact Or.inl (f4 h)
    have K3 : ∀ c : Int32, wL_holds_156 post (wL_holds_57 post (nI t) (nI lo) (nI up) n) (nI t) (nI lo) (nI up) (nI i) c c q2 a1 a2 a3 a4 a5 a6 a7 c8 c9 c10 := by
      intro c
      have e1 : (nI i + 1) - (nI i + 1) / 9 * 9 = nI ((i + 1) % 9) := by
        rw [nI_1]
        exact pk_rem (d := 9) (by omega) (by omega) (by omega)
      have e4 : (nI i + 4) - (nI i + 4) / 9 * 9 = nI ((i + 4) % 9) := by
        have e : nI i + 4 = nI (i + 4) := nI_add i 4
        rw [e]
        exact pk_rem (d := 9) (by omega) (by omega) (by omega)
      unfold wL_holds_156
      rw [e1, e4]
      refine br_t rfl ⟨by decide, ?_⟩
      refine cl_apart hi (by omega) (by omega) hV (fun r q3 d8 d9 d10 hr hA => ?_)
      have hr1 := hA t (by omega) t1
      refine pk_lt r t (fun h => absurd h (by omega)) (fun _ => ⟨by decide, ?_⟩)
      refine cl_apart hi (by omega) (by omega) hV (fun r' q4 g8 g9 g10 hr' hA' => ?_)
      have hr2 := hA' t (by omega) t1
      exact pk_le t r' (fun _ => nm_r (nI_1 i) (hw (q4, g8, g9, g10) trivial)) (fun h => absurd h (by omega))
    have K2 : ∀ c : Int32, wL_holds_127 post (wL_holds_57 post (nI t) (nI lo) (nI up) n) (nI t) (nI lo) (nI up) (nI i) (nI z) c c q2 a1 a2 a3 a4 a5 a6 a7 c8 c9 c10 := by
      intro c
      unfold wL_holds_127 wL_holds_141
      rw [cl_bit_s (by omega) (by omega)]
      refine br_t rfl (pk_le z t (fun h => ?_) (fun h => ?_))
      · exact pk_eq (lo / 2 ^ i % 2) 1 (fun e => absurd (f3 e) (by omega)) (fun e => K3 0)
      · exact pk_eq (lo / 2 ^ i % 2) 1 (fun e => K3 1) (fun e => absurd (f4 e) (by omega))
    have K1 : ∀ w, t = w → wL_holds_97 post (wL_holds_57 post (nI t) (nI lo) (nI up) n) (nI t) (nI lo) (nI up) (nI i) (nI z) (nI o) (nI w) (nI t) q2 a1 a2 a3 a4 a5 a6 a7 c8 c9 c10 := by
      intro w hw
      unfold wL_holds_97 wL_holds_113
      rw [cl_bit_s (by omega) (by omega)]
      refine br_t (by rw [hw]) (pk_le o t (fun h => ?_) (fun h => ?_))
      · exact pk_eq (up / 2 ^ i % 2) 0 (fun e => absurd (f1 e) (by omega)) (fun e => K2 0)
      · exact pk_eq (up / 2 ^ i % 2) 0 (fun e => K2 1) (fun e => absurd (f2 e) (by omega))
    exact pk_le o z (fun h => K1 o (by omega)) (fun h => K1 z (by omega))
theorem cl_holds {post : Int32 → St1 → Prop} {q : Int32} {a8 a9 a10 : Nat → Int32} (hV : cl_V a1 a2 a3 a4 a5 a6 a7)
    (H : ∀ (q' : Int32) (a8' a9' a10' : Nat → Int32), post 1 (q', a1, a2, a3, a4, a5, a6, a7, a8', a9', a10')) :
    wpL_holds post (q, a1, a2, a3, a4, a5, a6, a7, a8, a9, a10) := by
  unfold wpL_holds
  refine cl_least hV (fun t q1 b8 b9 b10 ht t1 t2 => ?_)
  refine cl_lower hV (fun lo q2 c8 c9 c10 hlo l1 l2 => ?_)
  refine cl_upper hV (fun up q3 d8 d9 d10 hup u1 u2 => ?_)
  obtain ⟨S, s1, s2, s3⟩ := t2
  have elo : cl_E a1 a2 a3 a4 a5 a6 a7 (cl_S lo) = t := by
    have h1 := l1 S s1 s2
    have h2 := t1 _ (cl_S_9 lo) (cl_S_10 lo)
    omega
  have eup : cl_E a1 a2 a3 a4 a5 a6 a7 (cl_S up) = t := by
    have h1 := u1 S s1 s2
    have h2 := t1 _ (cl_S_9 up) (cl_S_10 up)
    omega
  rw [elo] at l2
  rw [eup] at u2
  refine cl_energy hlo hV ?_
  refine br_t (by rw [elo]) ?_
  refine cl_energy hup hV ?_
  refine br_t (by rw [eup]) ?_
  refine br_t (cl_sub hlo (fun p hp hb => ?_)) ?_
  · by_cases e : up / 2 ^ p % 2 = 1
    · exact e
    · have := l2 p hp hb _ (cl_S_9 up) (cl_S_10 up) (cl_S_t hp (by omega))
      omega
  · refine br_f (nI_pos (by omega)) ?_
    refine pk_le up 511 (fun _ => ?_) (fun z => absurd z (by omega))
    exact cl_h57 hV ht hlo hup t1 elo eup l2 u2 H
end
end
section
/-! the calls that store, and the law's loop -/
theorem cl_isCost {post : Int32 → Prop} {c : Nat} (hc : c ≤ 100) (H : post 1) : wpX_isCost post () (nI c) :=
  br_f (nI_pos (by omega)) (pk_lt 100 c (fun z => absurd z (by omega)) (fun _ => H))
section
variable {a1 a2 a3 a4 a5 a6 a7 : Nat → Int32}
theorem cl_cut {post : Int32 → St1 → Prop} {q : Int32} {a8 a9 a10 : Nat → Int32} {t : Nat} (ht : t < 16) (hV : cl_V a1 a2 a3 a4 a5 a6 a7)
    (H : ∀ (r : Int32) (b1 b2 b3 b4 b5 b6 b7 : Nat → Int32), cl_V b1 b2 b3 b4 b5 b6 b7 → post r (q, b1, b2, b3, b4, b5, b6, b7, a8, a9, a10)) :
    wpX_cut post (q, a1, a2, a3, a4, a5, a6, a7, a8, a9, a10) (nI t) := by
  obtain ⟨v1, v2, v3, v4, v5, v6, v7⟩ := hV
  unfold wpX_cut
  have K : ∀ z : Int32, wX_cut_26 post (nI t) z q a1 a2 a3 a4 a5 a6 a7 a8 a9 a10 := by
    intro z
    unfold wX_cut_26
    exact ⟨pk_in t 16 ht, nm_e (H z _ _ _ _ _ _ _ ⟨v1, v2, cl_B_u (v := 0) v3 (by omega), v4, v5, v6, v7⟩)⟩
  exact br_f (nI_pos (by omega)) (pk_le t 15 (fun _ => ⟨pk_in t 16 ht, br_c (fun _ => K 0) (fun _ => K 1)⟩) (fun z => absurd z (by omega)))
theorem cl_cost {post : Int32 → St1 → Prop} {q : Int32} {a8 a9 a10 : Nat → Int32} {p x y : Nat} (hp : p < 9) (hx : x ≤ 100) (hy : y ≤ 100) (hV : cl_V a1 a2 a3 a4 a5 a6 a7)
    (H : ∀ (r : Int32) (b1 b2 b3 b4 b5 b6 b7 : Nat → Int32), cl_V b1 b2 b3 b4 b5 b6 b7 → post r (q, b1, b2, b3, b4, b5, b6, b7, a8, a9, a10)) :
    wpX_cost post (q, a1, a2, a3, a4, a5, a6, a7, a8, a9, a10) (nI p) (nI x) (nI y) := by
  obtain ⟨v1, v2, v3, v4, v5, v6, v7⟩ := hV
  unfold wpX_cost
  refine cl_isPlace hp ?_
  refine br_f (by decide) ?_
  refine cl_isCost hx ?_
  refine br_f (by decide) ?_
  refine cl_isCost hy ?_
  refine br_f (by decide) ?_
  exact ⟨pk_in p 9 hp, nm_e ⟨pk_in p 9 hp, nm_e (H _ _ _ _ _ _ _ _ ⟨cl_B_u v1 hx, cl_B_u v2 hy, v3, v4, v5, v6, v7⟩)⟩⟩
theorem cl_tie {post : Int32 → St1 → Prop} {q : Int32} {a8 a9 a10 : Nat → Int32} {t i j x y : Nat} (ht : t < 16) (hi : i < 9) (hj : j < 9) (hx : x ≤ 100) (hy : y ≤ 100) (hV : cl_V a1 a2 a3 a4 a5 a6 a7)
    (H : ∀ (r : Int32) (b1 b2 b3 b4 b5 b6 b7 : Nat → Int32), cl_V b1 b2 b3 b4 b5 b6 b7 → post r (q, b1, b2, b3, b4, b5, b6, b7, a8, a9, a10)) :
    wpX_tie post (q, a1, a2, a3, a4, a5, a6, a7, a8, a9, a10) (nI t) (nI i) (nI j) (nI x) (nI y) := by
  have hV' := hV
  obtain ⟨v1, v2, v3, v4, v5, v6, v7⟩ := hV
  unfold wpX_tie
  refine br_f (nI_pos (by omega)) (pk_lt 15 t (fun z => absurd z (by omega)) (fun _ => ?_))
  refine cl_isPlace hi ?_
  refine br_f (by decide) ?_
  refine cl_isPlace hj ?_
  refine br_f (by decide) ?_
  refine pk_eq i j (fun _ => H _ _ _ _ _ _ _ _ hV') (fun _ => ?_)
  refine cl_isCost hx ?_
  refine br_f (by decide) ?_
  refine cl_isCost hy ?_
  refine br_f (by decide) ?_
  have p1 : vp_in (nI t) 16 := pk_in t 16 ht
  exact ⟨p1, nm_e ⟨p1, nm_e ⟨p1, nm_e ⟨p1, nm_e ⟨p1, nm_e (H _ _ _ _ _ _ _ _ ⟨v1, v2, cl_B_u (v := 1) v3 (by omega), cl_B_u v4 (by omega), cl_B_u v5 (by omega), cl_B_u v6 hx, cl_B_u v7 hy⟩)⟩⟩⟩⟩⟩
theorem cl_rem (x : Int32) {d : Nat} (h0 : 0 < d) (hd : d < 2 ^ 31) : ∃ j, j < d ∧ (x &&& 255) - (x &&& 255) / nI d * nI d = nI j := by
  obtain ⟨j, hj, e⟩ := pk_andE x (m := 255) 8 (by decide)
  rw [e]
  exact ⟨j % d, Nat.mod_lt _ h0, pk_rem (by omega) h0 hd⟩
theorem cl_l160 {post : Int32 → Prop} {L : Nat} {xs : Nat → Int32} {J : Int32 → Int32 → (Nat → Int32) → (Nat → Int32) → (Nat → Int32) → (Nat → Int32) → (Nat → Int32) → (Nat → Int32) → (Nat → Int32) → (Nat → Int32) → (Nat → Int32) → (Nat → Int32) → Prop}
    {kc ks i : Nat} {q : Int32} {a8 a9 a10 : Nat → Int32} (hV : cl_V a1 a2 a3 a4 a5 a6 a7)
    (H : ∀ (q' : Int32) (b1 b2 b3 b4 b5 b6 b7 b8 b9 b10 : Nat → Int32), cl_V b1 b2 b3 b4 b5 b6 b7 → J (nI (i + 5)) q' b1 b2 b3 b4 b5 b6 b7 b8 b9 b10) :
    wL_law_160 post L xs J (nI i) kc ks q a1 a2 a3 a4 a5 a6 a7 a8 a9 a10 := by
  unfold wL_law_160
  refine cl_holds hV (fun q' b8 b9 b10 => ?_)
  refine br_f (by decide) ?_
  exact nm_r (nI_add i 5) (H _ _ _ _ _ _ _ _ _ _ _ hV)
theorem cl_l68 {post : Int32 → Prop} {L : Nat} {xs : Nat → Int32} {J : Int32 → Int32 → (Nat → Int32) → (Nat → Int32) → (Nat → Int32) → (Nat → Int32) → (Nat → Int32) → (Nat → Int32) → (Nat → Int32) → (Nat → Int32) → (Nat → Int32) → (Nat → Int32) → Prop}
    {kc ks i k a b d : Nat} {q : Int32} {a8 a9 a10 : Nat → Int32} (hV : cl_V a1 a2 a3 a4 a5 a6 a7) (hL : L ≤ 260) (hi : i + 5 ≤ L) (hk : k < 8) (ha : a < 9) (hb : b < 9) (h0 : 0 < d) (hd : d ≤ 101)
    (H : ∀ (q' : Int32) (b1 b2 b3 b4 b5 b6 b7 b8 b9 b10 : Nat → Int32), cl_V b1 b2 b3 b4 b5 b6 b7 → J (nI (i + 5)) q' b1 b2 b3 b4 b5 b6 b7 b8 b9 b10) :
    wL_law_68 post L xs J (nI i) (nI k) (nI a) (nI b) (nI d) kc ks q a1 a2 a3 a4 a5 a6 a7 a8 a9 a10 := by
  have e3 : nI i + 3 = nI (i + 3) := nI_add i 3
  have e4 : nI i + 4 = nI (i + 4) := nI_add i 4
  unfold wL_law_68
  rw [e3, e4]
  obtain ⟨x, hx, ex⟩ := cl_rem (xs (nI (i + 3)).toNatClampNeg) h0 (by omega)
  obtain ⟨y, hy, ey⟩ := cl_rem (xs (nI (i + 4)).toNatClampNeg) h0 (by omega)
  obtain ⟨t, ht, et⟩ := pk_andE (xs (nI i).toNatClampNeg >>> ((4 : Int32) &&& 31)) (m := 15) 4 (by decide)
  refine ⟨pk_in (i + 3) L (by omega), nI_ne0 h0 (by omega), nm_r ex ⟨pk_in (i + 4) L (by omega), nI_ne0 h0 (by omega), nm_r ey ?_⟩⟩
  rw [et]
  refine pk_lt 2 k (fun _ => pk_lt 6 k (fun _ => ⟨pk_in i L (by omega), ?_⟩) (fun _ => ⟨pk_in i L (by omega), ?_⟩)) (fun _ => ?_)
  · exact cl_cut (by omega) hV (fun r b1 b2 b3 b4 b5 b6 b7 hV' => cl_l160 hV' H)
  · exact cl_tie (by omega) ha hb (by omega) (by omega) hV (fun r b1 b2 b3 b4 b5 b6 b7 hV' => cl_l160 hV' H)
  · exact cl_cost ha (by omega) (by omega) hV (fun r b1 b2 b3 b4 b5 b6 b7 hV' => cl_l160 hV' H)
end
theorem i_vc (xs : Nat → Int32) (L : Nat) (hL : L ≤ 260) : wpL_law (fun r => r = 1) L xs := by
  refine ⟨10, 241, by omega, by omega, ?_⟩
  unfold wpX_init
  refine ⟨by omega, by omega, by omega, by omega, by omega, by omega, by omega, by omega, by omega, by omega, by omega, by omega, by omega, by omega, by omega, by omega, by omega, by omega, by omega, by omega, ?_⟩
  refine pk_loop (σ := St1) (fun n i s => wL_law_10 (fun r => r = 1) L xs (1 + 10) (11 + 241) n (nI (5 * i)) s.1 s.2.1 s.2.2.1 s.2.2.2.1 s.2.2.2.2.1 s.2.2.2.2.2.1 s.2.2.2.2.2.2.1 s.2.2.2.2.2.2.2.1 s.2.2.2.2.2.2.2.2.1 s.2.2.2.2.2.2.2.2.2.1 s.2.2.2.2.2.2.2.2.2.2)
    (fun _ s => cl_V s.2.1 s.2.2.1 s.2.2.2.1 s.2.2.2.2.1 s.2.2.2.2.2.1 s.2.2.2.2.2.2.1 s.2.2.2.2.2.2.2.1) (L / 5) 0
    (0, (fun _ => 0), (fun _ => 0), (fun _ => 0), (fun _ => 0), (fun _ => 0), (fun _ => 0), (fun _ => 0), (fun _ => 0), (fun _ => 0), (fun _ => 0)) (by omega)
    ⟨cl_B_0 _ _, cl_B_0 _ _, cl_B_0 _ _, cl_B_0 _ _, cl_B_0 _ _, cl_B_0 _ _, cl_B_0 _ _⟩ ?_ ?_
  · intro n s _
    exact pk_lt L (5 * (L / 5) + 5) (fun _ => rfl) (fun z => absurd z (by omega)) rfl (nI_add _ 5)
  · rintro n i ⟨q, a1, a2, a3, a4, a5, a6, a7, a8, a9, a10⟩ hi hV hw
    dsimp only at hV
    have e2 : nI (5 * i) + 2 = nI (5 * i + 2) := nI_add (5 * i) 2
    refine pk_lt L (5 * i + 5) (fun z => absurd z (by omega)) (fun _ => ⟨pk_in (5 * i) L (by omega), ?_⟩) rfl (nI_add _ 5)
    rw [nI_1, e2]
    obtain ⟨k, hk, ek⟩ := pk_andE (xs (nI (5 * i)).toNatClampNeg) (m := 7) 3 (by decide)
    obtain ⟨a, ha, ea⟩ := cl_rem (xs (nI (5 * i + 1)).toNatClampNeg) (d := 9) (by omega) (by omega)
    obtain ⟨b, hb, eb⟩ := cl_rem (xs (nI (5 * i + 2)).toNatClampNeg) (d := 9) (by omega) (by omega)
    have H : ∀ (q' : Int32) (b1 b2 b3 b4 b5 b6 b7 b8 b9 b10 : Nat → Int32), cl_V b1 b2 b3 b4 b5 b6 b7 → wL_law_10 (fun r => r = 1) L xs (1 + 10) (11 + 241) n (nI (5 * i + 5)) q' b1 b2 b3 b4 b5 b6 b7 b8 b9 b10 :=
      fun q' b1 b2 b3 b4 b5 b6 b7 b8 b9 b10 hV' => hw (q', b1, b2, b3, b4, b5, b6, b7, b8, b9, b10) hV'
    refine nm_r ek ⟨pk_in (5 * i + 1) L (by omega), by decide, nm_r ea ⟨pk_in (5 * i + 2) L (by omega), by decide, nm_r eb ⟨pk_in (5 * i) L (by omega), br_c (fun _ => ?_) (fun _ => ?_)⟩⟩⟩
    · exact cl_l68 (d := 4) hV hL (by omega) hk ha hb (by omega) (by omega) H
    · exact cl_l68 (d := 101) hV hL (by omega) hk ha hb (by omega) (by omega) H
end
