section
/-! sums of the first n places, injections, the price argument -/
/-- f 0 + .. + f (n - 1) -/
def ft_sm (f : Nat → Int) : Nat → Int
  | 0 => 0
  | n + 1 => ft_sm f n + f n
theorem ft_sm_cg {f g : Nat → Int} : ∀ n, (∀ i, i < n → f i = g i) → ft_sm f n = ft_sm g n := by
  intro n
  induction n with
  | zero => intro _; rfl
  | succ n ih =>
    intro h
    show ft_sm f n + f n = ft_sm g n + g n
    rw [ih (fun i hi => h i (by omega)), h n (by omega)]
theorem ft_sm_le {f g : Nat → Int} : ∀ n, (∀ i, i < n → f i ≤ g i) → ft_sm f n ≤ ft_sm g n := by
  intro n
  induction n with
  | zero => intro _; exact Int.le_refl _
  | succ n ih =>
    intro h
    show ft_sm f n + f n ≤ ft_sm g n + g n
    have h1 := ih (fun i hi => h i (by omega))
    have h2 := h n (by omega)
    omega
theorem ft_sm_add (f g : Nat → Int) : ∀ n, ft_sm (fun i => f i + g i) n = ft_sm f n + ft_sm g n := by
  intro n
  induction n with
  | zero => rfl
  | succ n ih =>
    show ft_sm (fun i => f i + g i) n + (f n + g n) = (ft_sm f n + f n) + (ft_sm g n + g n)
    omega
theorem ft_sm_0 {f : Nat → Int} (n : Nat) (h : ∀ i, i < n → f i = 0) : ft_sm f n = 0 := by
  induction n with
  | zero => rfl
  | succ n ih =>
    show ft_sm f n + f n = 0
    rw [ih (fun i hi => h i (by omega)), h n (by omega)]
    rfl
theorem ft_sm_neg {f : Nat → Int} (n : Nat) (h : ∀ i, i < n → f i ≤ 0) : ft_sm f n ≤ 0 := by
  have := ft_sm_le (g := fun _ => 0) n h
  rw [ft_sm_0 n (fun _ _ => rfl)] at this
  exact this
theorem ft_sm_pos {f : Nat → Int} (n : Nat) (h : ∀ i, i < n → 0 ≤ f i) : 0 ≤ ft_sm f n := by
  have := ft_sm_le (f := fun _ => 0) n h
  rw [ft_sm_0 n (fun _ _ => rfl)] at this
  exact this
theorem ft_sm_out (f : Nat → Int) (k : Nat) : ∀ n, k < n → ft_sm f n = f k + ft_sm (fun j => if j = k then 0 else f j) n := by
  intro n
  induction n with
  | zero => intro h; omega
  | succ n ih =>
    intro h
    show ft_sm f n + f n = f k + (ft_sm (fun j => if j = k then 0 else f j) n + (if n = k then 0 else f n))
    by_cases e : n = k
    · subst e
      rw [if_pos rfl]
      have : ft_sm (fun j => if j = n then 0 else f j) n = ft_sm f n := ft_sm_cg n (fun i hi => if_neg (by omega))
      rw [this]
      omega
    · rw [if_neg e]
      have := ih (by omega)
      omega
/-- a sum of what isn't above 0, over all places and over some different ones -/
theorem ft_inj_le (n : Nat) (π : Nat → Nat) : ∀ (R : Nat) (h : Nat → Int), (∀ r, r < R → π r < n) → (∀ r s, r < R → s < R → π r = π s → r = s) → (∀ c, c < n → h c ≤ 0) → ft_sm h n ≤ ft_sm (fun r => h (π r)) R := by
  intro R
  induction R with
  | zero => intro h _ _ h3; exact ft_sm_neg n h3
  | succ R ih =>
    intro h h1 h2 h3
    show ft_sm h n ≤ ft_sm (fun r => h (π r)) R + h (π R)
    rw [ft_sm_out h (π R) n (h1 R (by omega))]
    have e := ih (fun j => if j = π R then 0 else h j) (fun r hr => h1 r (by omega)) (fun r s hr hs => h2 r s (by omega) (by omega)) (fun c hc => by
      show (if c = π R then 0 else h c) ≤ 0
      by_cases z : c = π R
      · rw [if_pos z]; exact Int.le_refl _
      · rw [if_neg z]; exact h3 c hc)
    have e2 : ft_sm (fun r => (fun j => if j = π R then 0 else h j) (π r)) R = ft_sm (fun r => h (π r)) R := ft_sm_cg R (fun r hr => by
      show (if π r = π R then 0 else h (π r)) = h (π r)
      rw [if_neg (fun z => absurd (h2 r R (by omega) (by omega) z) (by omega))])
    rw [e2] at e
    omega
theorem ft_inj_eq (n : Nat) (π : Nat → Nat) : ∀ (R : Nat) (h : Nat → Int), (∀ r, r < R → π r < n) → (∀ r s, r < R → s < R → π r = π s → r = s) → (∀ c, c < n → (∀ r, r < R → π r ≠ c) → h c = 0) → ft_sm h n = ft_sm (fun r => h (π r)) R := by
  intro R
  induction R with
  | zero => intro h _ _ h3; exact ft_sm_0 n (fun i hi => h3 i hi (fun r hr => absurd hr (by omega)))
  | succ R ih =>
    intro h h1 h2 h3
    show ft_sm h n = ft_sm (fun r => h (π r)) R + h (π R)
    rw [ft_sm_out h (π R) n (h1 R (by omega))]
    have e := ih (fun j => if j = π R then 0 else h j) (fun r hr => h1 r (by omega)) (fun r s hr hs => h2 r s (by omega) (by omega)) (fun c hc hn => by
      show (if c = π R then 0 else h c) = 0
      by_cases z : c = π R
      · rw [if_pos z]
      · rw [if_neg z]
        refine h3 c hc (fun r hr => ?_)
        by_cases e : r = R
        · rw [e]; exact fun t => z t.symm
        · exact hn r (by omega))
    have e2 : ft_sm (fun r => (fun j => if j = π R then 0 else h j) (π r)) R = ft_sm (fun r => h (π r)) R := ft_sm_cg R (fun r hr => by
      show (if π r = π R then 0 else h (π r)) = h (π r)
      rw [if_neg (fun z => absurd (h2 r R (by omega) (by omega) z) (by omega))])
    rw [e2] at e
    omega
theorem ft_sm_c (n : Nat) : ft_sm (fun _ => -1) n = -(n : Int) := by
  induction n with
  | zero => rfl
  | succ n ih =>
    show ft_sm (fun _ => -1) n + -1 = _
    rw [ih]
    omega
theorem ft_pig {n R : Nat} (π : Nat → Nat) (h1 : ∀ r, r < R → π r < n) (h2 : ∀ r s, r < R → s < R → π r = π s → r = s) : R ≤ n := by
  have := ft_inj_le n π R (fun _ => -1) h1 h2 (fun _ _ => by omega)
  rw [ft_sm_c, ft_sm_c] at this
  omega
/-- the matching ρ (of a column: its row, 0: none), the prices u and v over the costs C; rows 1 .. k are in -/
def ft_H (N R k : Nat) (C : Nat → Nat → Int) (u v : Nat → Int) (ρ : Nat → Nat) : Prop :=
  (∀ c, 1 ≤ c → c ≤ N → ρ c ≤ k) ∧
  (∀ c d, 1 ≤ c → c ≤ N → 1 ≤ d → d ≤ N → ρ c ≠ 0 → ρ c = ρ d → c = d) ∧
  (∀ r, 1 ≤ r → r ≤ k → ∃ c, 1 ≤ c ∧ c ≤ N ∧ ρ c = r) ∧
  (∀ r c, 1 ≤ r → r ≤ R → 1 ≤ c → c ≤ N → u r + v c ≤ C r c) ∧
  (∀ c, 1 ≤ c → c ≤ N → ρ c ≠ 0 → u (ρ c) + v c = C (ρ c) c) ∧
  (∀ c, 1 ≤ c → c ≤ N → v c ≤ 0) ∧
  (∀ c, 1 ≤ c → c ≤ N → ρ c = 0 → v c = 0) ∧
  (∀ r, 1 ≤ r → r ≤ R → 0 ≤ u r)
/-- rows to different columns -/
def ft_asg (N R : Nat) (σ : Nat → Nat) : Prop := (∀ r, 1 ≤ r → r ≤ R → 1 ≤ σ r ∧ σ r ≤ N) ∧ (∀ r s, 1 ≤ r → r ≤ R → 1 ≤ s → s ≤ R → σ r = σ s → r = s)
theorem ft_pick {N k : Nat} {ρ : Nat → Nat} (h : ∀ r, 1 ≤ r → r ≤ k → ∃ c, 1 ≤ c ∧ c ≤ N ∧ ρ c = r) : ∃ π : Nat → Nat, ∀ r, 1 ≤ r → r ≤ k → 1 ≤ π r ∧ π r ≤ N ∧ ρ (π r) = r := by
  refine ⟨fun r => if z : 1 ≤ r ∧ r ≤ k then Classical.choose (h r z.1 z.2) else 0, fun r h1 h2 => ?_⟩
  have e : (fun r => if z : 1 ≤ r ∧ r ≤ k then Classical.choose (h r z.1 z.2) else 0) r = Classical.choose (h r h1 h2) := dif_pos ⟨h1, h2⟩
  rw [e]
  exact Classical.choose_spec (h r h1 h2)
/-- what the matching costs, by columns -/
def ft_S (N : Nat) (C : Nat → Nat → Int) (ρ : Nat → Nat) : Int := ft_sm (fun c => if c = 0 ∨ ρ c = 0 then 0 else C (ρ c) c) (N + 1)
theorem ft_dual {N R : Nat} {C : Nat → Nat → Int} {u v : Nat → Int} {ρ : Nat → Nat} (H : ft_H N R R C u v ρ) :
    (∃ σ, ft_asg N R σ ∧ ft_S N C ρ = ft_sm (fun r => C (r + 1) (σ (r + 1))) R) ∧ ∀ σ, ft_asg N R σ → ft_S N C ρ ≤ ft_sm (fun r => C (r + 1) (σ (r + 1))) R := by
  obtain ⟨h1, h2, h3, h4, h5, h6, h7, h8⟩ := H
  obtain ⟨π, hπ⟩ := ft_pick h3
  have inj : ∀ r s, 1 ≤ r → r ≤ R → 1 ≤ s → s ≤ R → π r = π s → r = s := by
    intro r s a b c d e
    rw [← (hπ r a b).2.2, ← (hπ s c d).2.2, e]
  have L : ∀ r, r < R → π (r + 1) < N + 1 := fun r hr => by have := (hπ (r + 1) (by omega) (by omega)).2.1; omega
  have I : ∀ r s, r < R → s < R → π (r + 1) = π (s + 1) → r = s := fun r s hr hs e => by have := inj (r + 1) (s + 1) (by omega) (by omega) (by omega) (by omega) e; omega
  have img : ∀ c, 1 ≤ c → c ≤ N → ρ c ≠ 0 → ∃ r, r < R ∧ π (r + 1) = c := by
    intro c a b z
    have l := h1 c a b
    refine ⟨ρ c - 1, by omega, ?_⟩
    have e : ρ c - 1 + 1 = ρ c := by omega
    rw [e]
    have t := hπ (ρ c) (by omega) l
    exact h2 (π (ρ c)) c t.1 t.2.1 a b (by rw [t.2.2]; exact z) t.2.2
  have E : ft_S N C ρ = ft_sm (fun r => C (r + 1) (π (r + 1))) R := by
    unfold ft_S
    rw [ft_inj_eq (N + 1) (fun r => π (r + 1)) R _ L I (fun c hc hn => by
      show (if c = 0 ∨ ρ c = 0 then 0 else C (ρ c) c) = 0
      by_cases z : c = 0 ∨ ρ c = 0
      · exact if_pos z
      · obtain ⟨r, hr, e⟩ := img c (by omega) (by omega) (fun t => z (Or.inr t))
        exact absurd e (hn r hr))]
    refine ft_sm_cg R (fun r hr => ?_)
    have t := hπ (r + 1) (by omega) (by omega)
    show (if π (r + 1) = 0 ∨ ρ (π (r + 1)) = 0 then 0 else C (ρ (π (r + 1))) (π (r + 1))) = C (r + 1) (π (r + 1))
    rw [if_neg (by rw [t.2.2]; omega), t.2.2]
  refine ⟨⟨π, ⟨fun r a b => ⟨(hπ r a b).1, (hπ r a b).2.1⟩, inj⟩, E⟩, fun σ hσ => ?_⟩
  rw [E]
  have E1 : ft_sm (fun r => C (r + 1) (π (r + 1))) R = ft_sm (fun r => u (r + 1)) R + ft_sm (fun r => (fun c => if c = 0 then 0 else v c) (π (r + 1))) R := by
    rw [← ft_sm_add]
    refine ft_sm_cg R (fun r hr => ?_)
    have t := hπ (r + 1) (by omega) (by omega)
    have t5 := h5 (π (r + 1)) t.1 t.2.1 (by rw [t.2.2]; omega)
    rw [t.2.2] at t5
    show C (r + 1) (π (r + 1)) = u (r + 1) + (if π (r + 1) = 0 then 0 else v (π (r + 1)))
    rw [if_neg (by omega)]
    exact t5.symm
  have E2 : ft_sm (fun c => if c = 0 then 0 else v c) (N + 1) = ft_sm (fun r => (fun c => if c = 0 then 0 else v c) (π (r + 1))) R :=
    ft_inj_eq (N + 1) (fun r => π (r + 1)) R (fun c => if c = 0 then 0 else v c) L I (fun c hc hn => by
      show (if c = 0 then 0 else v c) = 0
      by_cases z : c = 0
      · exact if_pos z
      · rw [if_neg z]
        refine h7 c (by omega) (by omega) ?_
        by_cases zz : ρ c = 0
        · exact zz
        · obtain ⟨r, hr, e⟩ := img c (by omega) (by omega) zz
          exact absurd e (hn r hr))
  have E3 : ft_sm (fun c => if c = 0 then 0 else v c) (N + 1) ≤ ft_sm (fun r => (fun c => if c = 0 then 0 else v c) (σ (r + 1))) R := ft_inj_le (N + 1) (fun r => σ (r + 1)) R (fun c => if c = 0 then 0 else v c) (fun r hr => by have := (hσ.1 (r + 1) (by omega) (by omega)).2; show σ (r + 1) < N + 1; omega)
    (fun r s hr hs e => by have := hσ.2 (r + 1) (s + 1) (by omega) (by omega) (by omega) (by omega) e; omega)
    (fun c hc => by
      show (if c = 0 then 0 else v c) ≤ 0
      by_cases z : c = 0
      · rw [if_pos z]; exact Int.le_refl _
      · rw [if_neg z]; exact h6 c (by omega) (by omega))
  have E4 : ft_sm (fun r => u (r + 1)) R + ft_sm (fun r => (fun c => if c = 0 then 0 else v c) (σ (r + 1))) R ≤ ft_sm (fun r => C (r + 1) (σ (r + 1))) R := by
    rw [← ft_sm_add]
    refine ft_sm_le R (fun r hr => ?_)
    have t := hσ.1 (r + 1) (by omega) (by omega)
    show u (r + 1) + (if σ (r + 1) = 0 then 0 else v (σ (r + 1))) ≤ C (r + 1) (σ (r + 1))
    rw [if_neg (by omega)]
    exact h4 (r + 1) (σ (r + 1)) (by omega) (by omega) t.1 t.2
  omega
/-- a column is free, and so the prices are bounded -/
theorem ft_free {N R k : Nat} {C : Nat → Nat → Int} {u v : Nat → Int} {ρ : Nat → Nat} (H : ft_H N R k C u v ρ) (hk : k < N) : ∃ c, 1 ≤ c ∧ c ≤ N ∧ ρ c = 0 := by
  refine Classical.byContradiction (fun hn => ?_)
  have h0 : ∀ c, 1 ≤ c → c ≤ N → ρ c ≠ 0 := fun c a b e => hn ⟨c, a, b, e⟩
  have := ft_pig (n := k) (R := N) (fun i => ρ (i + 1) - 1) (fun r hr => by
      have := H.1 (r + 1) (by omega) (by omega)
      have := h0 (r + 1) (by omega) (by omega)
      show ρ (r + 1) - 1 < k
      omega)
    (fun r s hr hs e => by
      have e' : ρ (r + 1) - 1 = ρ (s + 1) - 1 := e
      have a := h0 (r + 1) (by omega) (by omega)
      have b := h0 (s + 1) (by omega) (by omega)
      have := H.2.1 (r + 1) (s + 1) (by omega) (by omega) (by omega) (by omega) a (by omega)
      omega)
  omega
theorem ft_bnd {N R k : Nat} {C : Nat → Nat → Int} {u v : Nat → Int} {ρ : Nat → Nat} (H : ft_H N R k C u v ρ) (hk : k < N) (hkR : k ≤ R) (hC : ∀ r c, 1 ≤ r → r ≤ R → 1 ≤ c → c ≤ N → 0 ≤ C r c ∧ C r c ≤ 100000) :
    (∀ r, 1 ≤ r → r ≤ R → 0 ≤ u r ∧ u r ≤ 100000) ∧ ∀ c, 1 ≤ c → c ≤ N → -100000 ≤ v c ∧ v c ≤ 0 := by
  obtain ⟨f, f1, f2, f3⟩ := ft_free H hk
  obtain ⟨h1, h2, h3, h4, h5, h6, h7, h8⟩ := H
  have U : ∀ r, 1 ≤ r → r ≤ R → 0 ≤ u r ∧ u r ≤ 100000 := by
    intro r a b
    have t := h4 r f a b f1 f2
    have t2 := hC r f a b f1 f2
    have t3 := h7 f f1 f2 f3
    have t4 := h8 r a b
    omega
  refine ⟨U, fun c a b => ⟨?_, h6 c a b⟩⟩
  by_cases z : ρ c = 0
  · have := h7 c a b z; omega
  · have t := h5 c a b z
    have l := h1 c a b
    have t1 := U (ρ c) (by omega) (by omega)
    have t2 := hC (ρ c) c (by omega) (by omega) a b
    omega
end
section
/-! the tree of reached columns z 0 = 0, z 1 .. z (q - 1), the slack s, the column at that comes next -/
def ft_T (N R k : Nat) (C : Nat → Nat → Int) (u v : Nat → Int) (ρ : Nat → Nat) (w z : Nat → Nat) (q : Nat) : Prop :=
  ft_H N R k C u v ρ ∧ ρ 0 = k + 1 ∧ q ≤ k + 1 ∧
  (0 < q → z 0 = 0) ∧ (∀ i, 1 ≤ i → i < q → 1 ≤ z i ∧ z i ≤ N ∧ ρ (z i) ≠ 0) ∧ (∀ i j, i < q → j < q → z i = z j → i = j) ∧
  (∀ i, 1 ≤ i → i < q → ∃ j, j < i ∧ w (z i) = z j ∧ u (ρ (z j)) + v (z i) = C (ρ (z j)) (z i))
/-- the slack of the columns that aren't reached yet -/
def ft_L (N : Nat) (C : Nat → Nat → Int) (u v : Nat → Int) (ρ : Nat → Nat) (s : Nat → Int) (w z : Nat → Nat) (q : Nat) : Prop :=
  ∀ c, 1 ≤ c → c ≤ N → (∀ i, i < q → z i ≠ c) →
    (∀ i, i < q → s c ≤ C (ρ (z i)) c - u (ρ (z i)) - v c) ∧
    ((∃ i, i < q ∧ w c = z i ∧ s c = C (ρ (z i)) c - u (ρ (z i)) - v c) ∨ (q = 0 ∧ s c = 268435456))
/-- the column that comes next -/
def ft_at (N : Nat) (s : Nat → Int) (z : Nat → Nat) (q at' : Nat) : Prop := (q = 0 ∧ at' = 0) ∨ (1 ≤ q ∧ 1 ≤ at' ∧ at' ≤ N ∧ (∀ i, i < q → z i ≠ at') ∧ s at' = 0)
def ft_zz (z : Nat → Nat) (q a : Nat) : Nat → Nat := fun i => if i = q then a else z i
theorem ft_zz_q {z : Nat → Nat} {q a : Nat} : ft_zz z q a q = a := if_pos rfl
theorem ft_zz_n {z : Nat → Nat} {q a i : Nat} (h : i ≠ q) : ft_zz z q a i = z i := if_neg h
/-- the reached columns with the next one: still a tree -/
theorem ft_T_add {N R k : Nat} {C : Nat → Nat → Int} {u v : Nat → Int} {ρ : Nat → Nat} {s : Nat → Int} {w z : Nat → Nat} {q a : Nat}
    (T : ft_T N R k C u v ρ w z q) (L : ft_L N C u v ρ s w z q) (A : ft_at N s z q a) (hr : q = 0 ∨ ρ a ≠ 0) :
    ft_T N R k C u v ρ w (ft_zz z q a) (q + 1) ∧ q ≤ k := by
  obtain ⟨H, h0, hq, z0, z1, z2, z3⟩ := T
  have Z0 : 0 < q + 1 → ft_zz z q a 0 = 0 := by
    intro _
    rcases A with ⟨e, e2⟩ | ⟨e, _⟩
    · subst e; rw [ft_zz_q, e2]
    · rw [ft_zz_n (by omega)]; exact z0 (by omega)
  have Z1 : ∀ i, 1 ≤ i → i < q + 1 → 1 ≤ ft_zz z q a i ∧ ft_zz z q a i ≤ N ∧ ρ (ft_zz z q a i) ≠ 0 := by
    intro i h1 h2
    by_cases e : i = q
    · rw [e, ft_zz_q]
      rcases A with ⟨f, _⟩ | ⟨_, f1, f2, _, _⟩
      · omega
      · exact ⟨f1, f2, hr.resolve_left (by omega)⟩
    · rw [ft_zz_n e]; exact z1 i h1 (by omega)
  have Z2 : ∀ i j, i < q + 1 → j < q + 1 → ft_zz z q a i = ft_zz z q a j → i = j := by
    intro i j hi hj e
    have no : ∀ i, i < q → z i ≠ a := by
      rcases A with ⟨f, _⟩ | ⟨_, _, _, f, _⟩
      · intro i hi; omega
      · exact f
    by_cases ei : i = q
    · by_cases ej : j = q
      · omega
      · rw [ei, ft_zz_q, ft_zz_n ej] at e
        exact absurd e.symm (no j (by omega))
    · by_cases ej : j = q
      · rw [ej, ft_zz_q, ft_zz_n ei] at e
        exact absurd e (no i (by omega))
      · rw [ft_zz_n ei, ft_zz_n ej] at e
        exact z2 i j (by omega) (by omega) e
  have hqk : q ≤ k := by
    refine ft_pig (fun i => ρ (ft_zz z q a (i + 1)) - 1) (fun i hi => ?_) (fun i j hi hj e => ?_)
    · have t := Z1 (i + 1) (by omega) (by omega)
      have t2 := H.1 _ t.1 t.2.1
      show ρ (ft_zz z q a (i + 1)) - 1 < k
      omega
    · have t := Z1 (i + 1) (by omega) (by omega)
      have t2 := Z1 (j + 1) (by omega) (by omega)
      have e' : ρ (ft_zz z q a (i + 1)) - 1 = ρ (ft_zz z q a (j + 1)) - 1 := e
      have := Z2 (i + 1) (j + 1) (by omega) (by omega) (H.2.1 _ _ t.1 t.2.1 t2.1 t2.2.1 t.2.2 (by omega))
      omega
  refine ⟨⟨H, h0, by omega, Z0, Z1, Z2, fun i h1 h2 => ?_⟩, hqk⟩
  by_cases e : i = q
  · rcases A with ⟨f, _⟩ | ⟨f0, f1, f2, f3, f4⟩
    · omega
    · obtain ⟨_, t⟩ := L a f1 f2 f3
      rcases t with ⟨j, j1, j2, j3⟩ | ⟨t, _⟩
      · refine ⟨j, by omega, ?_, ?_⟩
        · rw [e, ft_zz_q, ft_zz_n (by omega)]; exact j2
        · rw [e, ft_zz_q, ft_zz_n (by omega)]; omega
      · omega
  · obtain ⟨j, j1, j2, j3⟩ := z3 i h1 (by omega)
    refine ⟨j, j1, ?_, ?_⟩
    · rw [ft_zz_n e, ft_zz_n (by omega)]; exact j2
    · rw [ft_zz_n e, ft_zz_n (by omega)]; exact j3
/-- one look ahead: the prices lowered by l -/
theorem ft_adv {N R k : Nat} {C : Nat → Nat → Int} {u v u' v' : Nat → Int} {ρ : Nat → Nat} {s s1 s' : Nat → Int} {w w' z : Nat → Nat} {q a a' : Nat} {l : Int} (hkR : k + 1 ≤ R)
    (T : ft_T N R k C u v ρ w z q) (L : ft_L N C u v ρ s w z q) (A : ft_at N s z q a) (hr : q = 0 ∨ ρ a ≠ 0) (hbig : ∀ r c, 1 ≤ r → r ≤ R → 1 ≤ c → c ≤ N → C r c - u r - v c < 268435456)
    (hs1 : ∀ c, 1 ≤ c → c ≤ N → (∀ i, i < q + 1 → ft_zz z q a i ≠ c) → (s1 c = s c ∧ w' c = w c ∧ s c ≤ C (ρ a) c - u (ρ a) - v c) ∨ (s1 c = C (ρ a) c - u (ρ a) - v c ∧ w' c = a ∧ s1 c ≤ s c))
    (hw : ∀ i, i < q + 1 → w' (ft_zz z q a i) = w (ft_zz z q a i))
    (ha : 1 ≤ a' ∧ a' ≤ N ∧ (∀ i, i < q + 1 → ft_zz z q a i ≠ a') ∧ s1 a' = l) (hl : ∀ c, 1 ≤ c → c ≤ N → (∀ i, i < q + 1 → ft_zz z q a i ≠ c) → l ≤ s1 c)
    (hu : ∀ i, i < q + 1 → u' (ρ (ft_zz z q a i)) = u (ρ (ft_zz z q a i)) + l) (hun : ∀ r, (∀ i, i < q + 1 → ρ (ft_zz z q a i) ≠ r) → u' r = u r)
    (hv : ∀ i, i < q + 1 → v' (ft_zz z q a i) = v (ft_zz z q a i) - l) (hvn : ∀ c, c ≤ N → (∀ i, i < q + 1 → ft_zz z q a i ≠ c) → v' c = v c)
    (hs' : ∀ c, c ≤ N → (∀ i, i < q + 1 → ft_zz z q a i ≠ c) → s' c = s1 c - l) :
    ft_T N R k C u' v' ρ w' (ft_zz z q a) (q + 1) ∧ ft_L N C u' v' ρ s' w' (ft_zz z q a) (q + 1) ∧ ft_at N s' (ft_zz z q a) (q + 1) a' := by
  obtain ⟨T', hqk⟩ := ft_T_add T L A hr
  generalize hz : ft_zz z q a = y at *
  have yq : y q = a := by rw [← hz]; exact ft_zz_q
  have yn : ∀ i, i < q → y i = z i := fun i hi => by rw [← hz]; exact ft_zz_n (by omega)
  have T0 := T'
  obtain ⟨H, h0, hq, z0, z1, z2, z3⟩ := T'
  have H0 := H
  obtain ⟨h1, h2, h3, h4, h5, h6, h7, h8⟩ := H
  -- rows of reached columns
  have row : ∀ i, i < q + 1 → 1 ≤ ρ (y i) ∧ ρ (y i) ≤ R := by
    intro i hi
    by_cases e : i = 0
    · rw [e, z0 (by omega), h0]; omega
    · have t := z1 i (by omega) hi
      have := h1 _ t.1 t.2.1
      omega
  -- the slack s1, over the old prices
  have S1 : ∀ c, 1 ≤ c → c ≤ N → (∀ i, i < q + 1 → y i ≠ c) → (∀ i, i < q + 1 → s1 c ≤ C (ρ (y i)) c - u (ρ (y i)) - v c) ∧ (∃ i, i < q + 1 ∧ w' c = y i ∧ s1 c = C (ρ (y i)) c - u (ρ (y i)) - v c) := by
    intro c c1 c2 cn
    obtain ⟨t1, t2⟩ := L c c1 c2 (fun i hi => by rw [← yn i hi]; exact cn i (by omega))
    rcases hs1 c c1 c2 cn with ⟨e1, e2, e3⟩ | ⟨e1, e2, e3⟩
    · refine ⟨fun i hi => ?_, ?_⟩
      · by_cases e : i = q
        · rw [e, yq, e1]; exact e3
        · rw [yn i (by omega), e1]; exact t1 i (by omega)
      · rcases t2 with ⟨i, i1, i2, i3⟩ | ⟨e, e4⟩
        · exact ⟨i, by omega, by rw [yn i i1, e2]; exact i2, by rw [yn i i1, e1]; exact i3⟩
        · have rr := row q (by omega)
          rw [yq] at rr
          have := hbig (ρ a) c rr.1 rr.2 c1 c2
          omega
    · refine ⟨fun i hi => ?_, q, by omega, by rw [yq]; exact e2, by rw [yq]; exact e1⟩
      by_cases e : i = q
      · rw [e, yq]; omega
      · rw [yn i (by omega)]
        have := t1 i (by omega)
        omega
  have l0 : 0 ≤ l := by
    obtain ⟨a1, a2, a3, a4⟩ := ha
    obtain ⟨_, i, hi, _, e⟩ := S1 a' a1 a2 a3
    have rr := row i hi
    have := h4 (ρ (y i)) a' rr.1 rr.2 a1 a2
    omega
  -- a reached column or not
  have dec : ∀ c, (∃ i, i < q + 1 ∧ y i = c) ∨ (∀ i, i < q + 1 → y i ≠ c) := by
    intro c
    by_cases e : ∃ i, i < q + 1 ∧ y i = c
    · exact Or.inl e
    · exact Or.inr (fun i hi t => e ⟨i, hi, t⟩)
  have rdec : ∀ r, (∃ i, i < q + 1 ∧ ρ (y i) = r) ∨ (∀ i, i < q + 1 → ρ (y i) ≠ r) := by
    intro r
    by_cases e : ∃ i, i < q + 1 ∧ ρ (y i) = r
    · exact Or.inl e
    · exact Or.inr (fun i hi t => e ⟨i, hi, t⟩)
  -- a matched column is reached just when its row is a reached one's
  have same : ∀ c, 1 ≤ c → c ≤ N → ρ c ≠ 0 → (∀ i, i < q + 1 → y i ≠ c) → ∀ i, i < q + 1 → ρ (y i) ≠ ρ c := by
    intro c c1 c2 c0 cn i hi e
    by_cases i0 : i = 0
    · rw [i0, z0 (by omega), h0] at e
      have := h1 c c1 c2
      omega
    · have t := z1 i (by omega) hi
      exact cn i hi (h2 (y i) c t.1 t.2.1 c1 c2 t.2.2 e)
  have HH : ft_H N R k C u' v' ρ := by
    refine ⟨h1, h2, h3, fun r c r1 r2 c1 c2 => ?_, fun c c1 c2 c0 => ?_, fun c c1 c2 => ?_, fun c c1 c2 c0 => ?_, fun r r1 r2 => ?_⟩
    · have base := h4 r c r1 r2 c1 c2
      rcases dec c with ⟨i, hi, e⟩ | cn
      · have ev := hv i hi
        rw [e] at ev
        rcases rdec r with ⟨j, hj, f⟩ | rn
        · have eu := hu j hj
          rw [f] at eu
          omega
        · have eu := hun r rn
          omega
      · have ev := hvn c c2 cn
        rcases rdec r with ⟨j, hj, f⟩ | rn
        · have eu := hu j hj
          rw [f] at eu
          have t := (S1 c c1 c2 cn).1 j hj
          rw [f] at t
          have t2 := hl c c1 c2 cn
          omega
        · have eu := hun r rn
          omega
    · have base := h5 c c1 c2 c0
      rcases dec c with ⟨i, hi, e⟩ | cn
      · have ev := hv i hi
        have eu := hu i hi
        rw [e] at ev eu
        omega
      · have ev := hvn c c2 cn
        have eu := hun (ρ c) (same c c1 c2 c0 cn)
        omega
    · have base := h6 c c1 c2
      rcases dec c with ⟨i, hi, e⟩ | cn
      · have ev := hv i hi
        rw [e] at ev
        omega
      · have ev := hvn c c2 cn
        omega
    · have base := h7 c c1 c2 c0
      rcases dec c with ⟨i, hi, e⟩ | cn
      · by_cases i0 : i = 0
        · rw [i0, z0 (by omega)] at e; omega
        · have t := (z1 i (by omega) hi).2.2
          rw [e] at t
          exact absurd c0 t
      · have ev := hvn c c2 cn
        omega
    · have base := h8 r r1 r2
      rcases rdec r with ⟨j, hj, f⟩ | rn
      · have eu := hu j hj
        rw [f] at eu
        omega
      · have eu := hun r rn
        omega
  refine ⟨⟨HH, h0, hq, z0, z1, z2, fun i i1 i2 => ?_⟩, fun c c1 c2 cn => ?_, Or.inr ⟨by omega, ha.1, ha.2.1, ha.2.2.1, ?_⟩⟩
  · obtain ⟨j, j1, j2, j3⟩ := z3 i i1 i2
    refine ⟨j, j1, by rw [hw i i2]; exact j2, ?_⟩
    have eu := hu j (by omega)
    have ev := hv i i2
    omega
  · obtain ⟨t1, i, hi, t2, t3⟩ := S1 c c1 c2 cn
    have es := hs' c c2 cn
    have ev := hvn c c2 cn
    refine ⟨fun j hj => ?_, Or.inl ⟨i, hi, t2, ?_⟩⟩
    · have eu := hu j hj
      have := t1 j hj
      omega
    · have eu := hu i hi
      omega
  · have := hs' a' ha.2.1 ha.2.2.1
    rw [this, ha.2.2.2]
    omega
/-- on the way back: all columns but the hole at hold rows 1 .. k + 1 -/
def ft_B (N R k : Nat) (C : Nat → Nat → Int) (u v : Nat → Int) (ρ0 : Nat → Nat) (w z : Nat → Nat) (ρ : Nat → Nat) (i a : Nat) : Prop :=
  a ≤ N ∧
  (∀ c, c ≤ N → c ≠ a → ρ c ≤ k + 1) ∧
  (∀ c d, c ≤ N → d ≤ N → c ≠ a → d ≠ a → ρ c ≠ 0 → ρ c = ρ d → c = d) ∧
  (∀ r, 1 ≤ r → r ≤ k + 1 → ∃ c, c ≤ N ∧ c ≠ a ∧ ρ c = r) ∧
  (∀ c, 1 ≤ c → c ≤ N → c ≠ a → ρ c ≠ 0 → u (ρ c) + v c = C (ρ c) c) ∧
  (∀ c, 1 ≤ c → c ≤ N → c ≠ a → ρ c = 0 → v c = 0) ∧
  (∀ j, j < i → ρ (z j) = ρ0 (z j) ∧ z j ≠ a) ∧
  (a = 0 ∨ ∃ j, j < i ∧ w a = z j ∧ u (ρ0 (z j)) + v a = C (ρ0 (z j)) a)
theorem ft_B_0 {N R k : Nat} {C : Nat → Nat → Int} {u v : Nat → Int} {ρ : Nat → Nat} {s : Nat → Int} {w z : Nat → Nat} {q a : Nat}
    (T : ft_T N R k C u v ρ w z q) (L : ft_L N C u v ρ s w z q) (A : ft_at N s z q a) (hq : q ≠ 0) (hr : ρ a = 0) : ft_B N R k C u v ρ w z ρ q a := by
  obtain ⟨⟨h1, h2, h3, h4, h5, h6, h7, h8⟩, h0, hqk, z0, z1, z2, z3⟩ := T
  rcases A with ⟨f, _⟩ | ⟨f0, f1, f2, f3, f4⟩
  · exact absurd f hq
  refine ⟨f2, fun c hc hn => ?_, fun c d hc hd cn dn c0 e => ?_, fun r r1 r2 => ?_, fun c c1 c2 _ c0 => h5 c c1 c2 c0, fun c c1 c2 _ c0 => h7 c c1 c2 c0, fun j hj => ⟨rfl, f3 j hj⟩, Or.inr ?_⟩
  · by_cases e : c = 0
    · rw [e, h0]; omega
    · have := h1 c (by omega) hc; omega
  · by_cases ec : c = 0
    · by_cases ed : d = 0
      · omega
      · have := h1 d (by omega) hd
        rw [ec, h0] at e
        omega
    · by_cases ed : d = 0
      · have := h1 c (by omega) hc
        rw [ed, h0] at e
        omega
      · exact h2 c d (by omega) hc (by omega) hd c0 e
  · by_cases e : r = k + 1
    · exact ⟨0, by omega, by omega, by rw [e]; exact h0⟩
    · obtain ⟨c, c1, c2, c3⟩ := h3 r r1 (by omega)
      refine ⟨c, c2, fun t => ?_, c3⟩
      rw [t, hr] at c3
      omega
  · obtain ⟨_, t⟩ := L a f1 f2 f3
    rcases t with ⟨j, j1, j2, j3⟩ | ⟨t, _⟩
    · exact ⟨j, j1, j2, by omega⟩
    · omega
theorem ft_B_s {N R k : Nat} {C : Nat → Nat → Int} {u v : Nat → Int} {ρ0 : Nat → Nat} {w z : Nat → Nat} {ρ ρ' : Nat → Nat} {q i a : Nat}
    (T : ft_T N R k C u v ρ0 w z q) (hi : i ≤ q) (B : ft_B N R k C u v ρ0 w z ρ i a) (ha : a ≠ 0) (e1 : ρ' a = ρ (w a)) (e2 : ∀ c, c ≤ N → c ≠ a → ρ' c = ρ c) :
    ∃ j, j < i ∧ ft_B N R k C u v ρ0 w z ρ' j (w a) := by
  obtain ⟨b0, b1, b2, b3, b4, b5, b6, b7⟩ := B
  obtain ⟨h, h0, hqk, z0, z1, z2, z3⟩ := T
  obtain ⟨j, j1, j2, j3⟩ := b7.resolve_left ha
  have hwa : w a ≠ a := by rw [j2]; exact (b6 j j1).2
  have hwN : w a ≤ N := by
    rw [j2]
    by_cases e : j = 0
    · rw [e, z0 (by omega)]; omega
    · exact (z1 j (by omega) (by omega)).2.1
  have hw0 : ρ (w a) = ρ0 (z j) := by rw [j2]; exact (b6 j j1).1
  refine ⟨j, j1, hwN, fun c hc hn => ?_, fun c d hc hd cn dn c0 e => ?_, fun r r1 r2 => ?_, fun c c1 c2 cn c0 => ?_, fun c c1 c2 cn c0 => ?_, fun m hm => ?_, ?_⟩
  · by_cases e : c = a
    · rw [e, e1]; exact b1 (w a) hwN hwa
    · rw [e2 c hc e]; exact b1 c hc e
  · by_cases ec : c = a
    · by_cases ed : d = a
      · omega
      · rw [ec, e1, e2 d hd ed] at e
        rw [ec, e1] at c0
        exact absurd (b2 (w a) d hwN hd hwa ed c0 e).symm dn
    · by_cases ed : d = a
      · rw [ed, e1, e2 c hc ec] at e
        rw [e2 c hc ec] at c0
        exact absurd (b2 c (w a) hc hwN ec hwa c0 e) cn
      · rw [e2 c hc ec, e2 d hd ed] at e
        rw [e2 c hc ec] at c0
        exact b2 c d hc hd ec ed c0 e
  · obtain ⟨c, c1, c2, c3⟩ := b3 r r1 r2
    by_cases e : c = w a
    · exact ⟨a, b0, fun t => hwa t.symm, by rw [e1, ← e]; exact c3⟩
    · exact ⟨c, c1, e, by rw [e2 c c1 c2]; exact c3⟩
  · by_cases e : c = a
    · rw [e, e1, hw0]; exact j3
    · rw [e2 c c2 e] at c0 ⊢
      exact b4 c c1 c2 e c0
  · by_cases e : c = a
    · rw [e, e1, hw0] at c0
      by_cases f : j = 0
      · rw [f, z0 (by omega), h0] at c0; omega
      · exact absurd c0 (z1 j (by omega) (by omega)).2.2
    · rw [e2 c c2 e] at c0
      exact b5 c c1 c2 e c0
  · have t := b6 m (by omega)
    have hm' : z m ≤ N := by
      by_cases e : m = 0
      · rw [e, z0 (by omega)]; omega
      · exact (z1 m (by omega) (by omega)).2.1
    refine ⟨by rw [e2 (z m) hm' t.2]; exact t.1, fun e => ?_⟩
    rw [j2] at e
    have := z2 m j (by omega) (by omega) e
    omega
  · by_cases e : j = 0
    · left; rw [j2, e]; exact z0 (by omega)
    · right
      rw [j2]
      exact z3 j (by omega) (by omega)
theorem ft_B_x {N R k : Nat} {C : Nat → Nat → Int} {u v : Nat → Int} {ρ0 : Nat → Nat} {w z : Nat → Nat} {ρ : Nat → Nat} {i : Nat} {ρ1 : Nat → Nat}
    (H : ft_H N R k C u v ρ1) (B : ft_B N R k C u v ρ0 w z ρ i 0) : ft_H N R (k + 1) C u v ρ := by
  obtain ⟨b0, b1, b2, b3, b4, b5, b6, b7⟩ := B
  obtain ⟨h1, h2, h3, h4, h5, h6, h7, h8⟩ := H
  refine ⟨fun c c1 c2 => b1 c c2 (by omega), fun c d c1 c2 d1 d2 c0 e => b2 c d c2 d2 (by omega) (by omega) c0 e, fun r r1 r2 => ?_, h4, fun c c1 c2 c0 => b4 c c1 c2 (by omega) c0, h6, fun c c1 c2 c0 => b5 c c1 c2 (by omega) c0, h8⟩
  obtain ⟨c, c1, c2, c3⟩ := b3 r r1 r2
  exact ⟨c, by omega, c1, c3⟩
end
section
/-! jobs of a set p, rows of jobs, plans -/
/-- how many jobs of the set lie below n -/
def ft_cnt (p : Nat → Bool) : Nat → Nat
  | 0 => 0
  | n + 1 => if p n = true then ft_cnt p n + 1 else ft_cnt p n
theorem ft_cnt_t {p : Nat → Bool} {n : Nat} (h : p n = true) : ft_cnt p (n + 1) = ft_cnt p n + 1 := if_pos h
theorem ft_cnt_f {p : Nat → Bool} {n : Nat} (h : ¬ p n = true) : ft_cnt p (n + 1) = ft_cnt p n := if_neg h
theorem ft_cnt_le (p : Nat → Bool) (n : Nat) : ft_cnt p n ≤ n := by
  induction n with
  | zero => exact Nat.le_refl _
  | succ n ih =>
    by_cases h : p n = true
    · rw [ft_cnt_t h]; omega
    · rw [ft_cnt_f h]; omega
theorem ft_cnt_mono (p : Nat → Bool) {a b : Nat} (h : a ≤ b) : ft_cnt p a ≤ ft_cnt p b := by
  induction b with
  | zero => rw [show a = 0 by omega]; exact Nat.le_refl _
  | succ b ih =>
    by_cases e : a = b + 1
    · rw [e]; exact Nat.le_refl _
    · have := ih (by omega)
      by_cases h : p b = true
      · rw [ft_cnt_t h]; omega
      · rw [ft_cnt_f h]; omega
theorem ft_cnt_lt (p : Nat → Bool) {a b : Nat} (h : a < b) (ha : p a = true) : ft_cnt p a < ft_cnt p b := by
  have := ft_cnt_mono p (show a + 1 ≤ b by omega)
  rw [ft_cnt_t ha] at this
  omega
theorem ft_cnt_inj (p : Nat → Bool) {a b : Nat} (ha : p a = true) (hb : p b = true) (h : ft_cnt p a = ft_cnt p b) : a = b := by
  rcases Nat.lt_trichotomy a b with z | z | z
  · have := ft_cnt_lt p z ha; omega
  · exact z
  · have := ft_cnt_lt p z hb; omega
theorem ft_cnt_on (p : Nat → Bool) {r : Nat} : ∀ n, r < ft_cnt p n → ∃ j, j < n ∧ p j = true ∧ ft_cnt p j = r := by
  intro n
  induction n with
  | zero => intro h; exact absurd h (Nat.not_lt_zero _)
  | succ n ih =>
    intro h
    by_cases e : p n = true
    · rw [ft_cnt_t e] at h
      by_cases g : r = ft_cnt p n
      · exact ⟨n, by omega, e, g.symm⟩
      · obtain ⟨j, j1, j2, j3⟩ := ih (by omega)
        exact ⟨j, by omega, j2, j3⟩
    · rw [ft_cnt_f e] at h
      obtain ⟨j, j1, j2, j3⟩ := ih h
      exact ⟨j, by omega, j2, j3⟩
/-- row ft_cnt p j + 1 is job j's -/
def ft_rj (p : Nat → Bool) (n : Nat) (J : Nat → Nat) : Prop := ∀ j, j < n → p j = true → J (ft_cnt p j + 1) = j
theorem ft_rj_sm {p : Nat → Bool} {J : Nat → Nat} (f : Nat → Int) : ∀ n, ft_rj p n J → ft_sm (fun r => f (J (r + 1))) (ft_cnt p n) = ft_sm (fun j => if p j = true then f j else 0) n := by
  intro n
  induction n with
  | zero => intro _; rfl
  | succ n ih =>
    intro h
    have ih' := ih (fun j hj => h j (by omega))
    show _ = ft_sm (fun j => if p j = true then f j else 0) n + (if p n = true then f n else 0)
    by_cases e : p n = true
    · rw [ft_cnt_t e, if_pos e]
      show ft_sm (fun r => f (J (r + 1))) (ft_cnt p n) + f (J (ft_cnt p n + 1)) = _
      rw [ih', h n (by omega) e]
    · rw [ft_cnt_f e, if_neg e, ih']
      omega
/-- jobs of the set to different columns 1 .. N -/
def ft_val (N : Nat) (p : Nat → Bool) (t : Nat → Nat) : Prop := (∀ j, j < 5 → p j = true → 1 ≤ t j ∧ t j ≤ N) ∧ (∀ i j, i < 5 → j < 5 → p i = true → p j = true → t i = t j → i = j)
def ft_tot (p : Nat → Bool) (K : Nat → Nat → Int) (t : Nat → Nat) : Int := ft_sm (fun j => if p j = true then K j (t j) else 0) 5
/-- S is the least total -/
def ft_opt (N : Nat) (p : Nat → Bool) (K : Nat → Nat → Int) (S : Int) : Prop := (∃ t, ft_val N p t ∧ S = ft_tot p K t) ∧ ∀ t, ft_val N p t → S ≤ ft_tot p K t
theorem ft_opt_of {N : Nat} {p : Nat → Bool} {K : Nat → Nat → Int} {J : Nat → Nat} {u v : Nat → Int} {ρ : Nat → Nat} (hJ : ft_rj p 5 J)
    (H : ft_H N (ft_cnt p 5) (ft_cnt p 5) (fun r c => K (J r) c) u v ρ) : ft_opt N p K (ft_S N (fun r c => K (J r) c) ρ) := by
  obtain ⟨⟨σ, s1, s2⟩, D⟩ := ft_dual H
  refine ⟨⟨fun j => σ (ft_cnt p j + 1), ⟨fun j hj pj => ?_, fun i j hi hj pi pj e => ?_⟩, ?_⟩, fun t ht => ?_⟩
  · have := ft_cnt_lt p hj pj
    exact s1.1 _ (by omega) (by omega)
  · have a := ft_cnt_lt p hi pi
    have b := ft_cnt_lt p hj pj
    have := s1.2 (ft_cnt p i + 1) (ft_cnt p j + 1) (by omega) (by omega) (by omega) (by omega) e
    exact ft_cnt_inj p pi pj (by omega)
  · rw [s2]
    unfold ft_tot
    rw [← ft_rj_sm (fun j => K j (σ (ft_cnt p j + 1))) 5 hJ]
    refine ft_sm_cg _ (fun r hr => ?_)
    obtain ⟨j, j1, j2, j3⟩ := ft_cnt_on p 5 hr
    have e := hJ j j1 j2
    rw [j3] at e
    show K (J (r + 1)) (σ (r + 1)) = K (J (r + 1)) (σ (ft_cnt p (J (r + 1)) + 1))
    rw [e, j3]
  · have d := D (fun r => t (J r)) ⟨fun r r1 r2 => ?_, fun r s r1 r2 s1 s2 e => ?_⟩
    · rw [show ft_tot p K t = ft_sm (fun r => (fun j => K j (t j)) (J (r + 1))) (ft_cnt p 5) from (ft_rj_sm (fun j => K j (t j)) 5 hJ).symm]
      exact d
    · obtain ⟨j, j1, j2, j3⟩ := ft_cnt_on p (r := r - 1) 5 (by omega)
      have e := hJ j j1 j2
      rw [j3, show r - 1 + 1 = r by omega] at e
      show 1 ≤ t (J r) ∧ t (J r) ≤ N
      rw [e]
      exact ht.1 j j1 j2
    · obtain ⟨j, j1, j2, j3⟩ := ft_cnt_on p (r := r - 1) 5 (by omega)
      obtain ⟨i, i1, i2, i3⟩ := ft_cnt_on p (r := s - 1) 5 (by omega)
      have ej := hJ j j1 j2
      have ei := hJ i i1 i2
      rw [j3, show r - 1 + 1 = r by omega] at ej
      rw [i3, show s - 1 + 1 = s by omega] at ei
      have e' : t (J r) = t (J s) := e
      rw [ej, ei] at e'
      have := ht.2 j i j1 i1 j2 i2 e'
      rw [this] at j3
      omega
/-! costs: o j m says that job j may go to machine m, mA is the machine of a column, bo what a liked place costs less -/
def ft_pl (c : Nat) : Nat := (c - 1) % 5 + 1
def ft_K (o : Nat → Nat → Bool) (mA : Nat → Nat) (bo : Nat → Nat) (X : Nat → Nat) (j c : Nat) : Int := if o j (mA c) = true then 8 * (ft_pl c : Int) * (X (3 * j + mA c) : Int) - (bo (mA c) : Int) else 100000
/-- what a plan takes in time -/
def ft_Y (mA : Nat → Nat) (X : Nat → Nat) (p : Nat → Bool) (t : Nat → Nat) : Int := ft_sm (fun j => if p j = true then (ft_pl (t j) : Int) * (X (3 * j + mA (t j)) : Int) else 0) 5
/-- how many places are liked -/
def ft_k (mA : Nat → Nat) (bo : Nat → Nat) (p : Nat → Bool) (t : Nat → Nat) : Int := ft_sm (fun j => if p j = true then (bo (mA (t j)) : Int) else 0) 5
def ft_ok (o : Nat → Nat → Bool) (mA : Nat → Nat) (p : Nat → Bool) (t : Nat → Nat) : Prop := ∀ j, j < 5 → p j = true → o j (mA (t j)) = true
theorem ft_sm_one {f : Nat → Int} {n k : Nat} (h : ∀ i, i < n → 0 ≤ f i) (hk : k < n) : f k ≤ ft_sm f n := by
  rw [ft_sm_out f k n hk]
  have := ft_sm_pos (f := fun j => if j = k then 0 else f j) n (fun i hi => by
    show 0 ≤ (if i = k then 0 else f i)
    by_cases e : i = k
    · rw [if_pos e]; exact Int.le_refl _
    · rw [if_neg e]; exact h i hi)
  omega
/-- the costs are within bounds -/
def ft_cb (o : Nat → Nat → Bool) (mA : Nat → Nat) (bo : Nat → Nat) (X : Nat → Nat) (N : Nat) : Prop := (∀ j c, j < 5 → 1 ≤ c → c ≤ N → o j (mA c) = true → 1 ≤ X (3 * j + mA c) ∧ X (3 * j + mA c) ≤ 15) ∧ (∀ m, bo m ≤ 1)
theorem ft_sm_lin {f g h : Nat → Int} (e : ∀ j, j < 5 → f j = 8 * g j - h j) : ft_sm f 5 = 8 * ft_sm g 5 - ft_sm h 5 := by
  show 0 + f 0 + f 1 + f 2 + f 3 + f 4 = 8 * (0 + g 0 + g 1 + g 2 + g 3 + g 4) - (0 + h 0 + h 1 + h 2 + h 3 + h 4)
  have e0 := e 0 (by omega)
  have e1 := e 1 (by omega)
  have e2 := e 2 (by omega)
  have e3 := e 3 (by omega)
  have e4 := e 4 (by omega)
  omega
theorem ft_sm_rng {f : Nat → Int} {a b : Int} (e : ∀ j, j < 5 → a ≤ f j ∧ f j ≤ b) : 5 * a ≤ ft_sm f 5 ∧ ft_sm f 5 ≤ 5 * b := by
  show 5 * a ≤ 0 + f 0 + f 1 + f 2 + f 3 + f 4 ∧ 0 + f 0 + f 1 + f 2 + f 3 + f 4 ≤ 5 * b
  have e0 := e 0 (by omega)
  have e1 := e 1 (by omega)
  have e2 := e 2 (by omega)
  have e3 := e 3 (by omega)
  have e4 := e 4 (by omega)
  omega
theorem ft_K_ok {o : Nat → Nat → Bool} {mA bo X : Nat → Nat} {p : Nat → Bool} {t : Nat → Nat} (h : ft_ok o mA p t) : ft_tot p (ft_K o mA bo X) t = 8 * ft_Y mA X p t - ft_k mA bo p t := by
  have e : ∀ j, j < 5 → (if p j = true then ft_K o mA bo X j (t j) else 0) = 8 * (if p j = true then (ft_pl (t j) : Int) * (X (3 * j + mA (t j)) : Int) else 0) - (if p j = true then (bo (mA (t j)) : Int) else 0) := by
    intro j hj
    by_cases z : p j = true
    · rw [if_pos z, if_pos z, if_pos z]
      unfold ft_K
      rw [if_pos (h j hj z), Int.mul_assoc]
    · rw [if_neg z, if_neg z, if_neg z]; rfl
  exact ft_sm_lin e
theorem ft_pl_b (c : Nat) : 1 ≤ ft_pl c ∧ ft_pl c ≤ 5 := by unfold ft_pl; omega
theorem ft_mulb {a b : Nat} (ha : 1 ≤ a ∧ a ≤ 5) (hb : 1 ≤ b ∧ b ≤ 15) : 1 ≤ (a : Int) * (b : Int) ∧ (a : Int) * (b : Int) ≤ 75 := by
  have h1 : 1 * 1 ≤ a * b := Nat.mul_le_mul ha.1 hb.1
  have h2 : a * b ≤ 5 * 15 := Nat.mul_le_mul ha.2 hb.2
  have e : (a : Int) * (b : Int) = ((a * b : Nat) : Int) := by rw [Int.natCast_mul]
  rw [e]
  omega
theorem ft_K_b {o : Nat → Nat → Bool} {mA bo X : Nat → Nat} {N : Nat} (h : ft_cb o mA bo X N) {j c : Nat} (hj : j < 5) (c1 : 1 ≤ c) (c2 : c ≤ N) : 0 ≤ ft_K o mA bo X j c ∧ ft_K o mA bo X j c ≤ 100000 := by
  unfold ft_K
  by_cases z : o j (mA c) = true
  · rw [if_pos z, Int.mul_assoc]
    have a := ft_mulb (ft_pl_b c) (h.1 j c hj c1 c2 z)
    have b := h.2 (mA c)
    omega
  · rw [if_neg z]; omega
/-- a cheap plan takes no place that isn't open -/
theorem ft_cheap {o : Nat → Nat → Bool} {mA bo X : Nat → Nat} {N : Nat} {p : Nat → Bool} {t : Nat → Nat} (h : ft_cb o mA bo X N) (hv : ft_val N p t) (hS : ft_tot p (ft_K o mA bo X) t < 100000) : ft_ok o mA p t := by
  intro j hj pj
  by_cases z : o j (mA (t j)) = true
  · exact z
  · have t1 := ft_sm_one (f := fun j => if p j = true then ft_K o mA bo X j (t j) else 0) (n := 5) (k := j) (fun i hi => by
      show 0 ≤ (if p i = true then ft_K o mA bo X i (t i) else 0)
      by_cases g : p i = true
      · rw [if_pos g]
        have := hv.1 i hi g
        exact (ft_K_b h hi this.1 this.2).1
      · rw [if_neg g]; exact Int.le_refl _) hj
    have t2 : (if p j = true then ft_K o mA bo X j (t j) else 0) = 100000 := by
      rw [if_pos pj]; unfold ft_K; rw [if_neg z]
    rw [t2] at t1
    unfold ft_tot at hS
    omega
theorem ft_Y_b {o : Nat → Nat → Bool} {mA bo X : Nat → Nat} {N : Nat} {p : Nat → Bool} {t : Nat → Nat} (h : ft_cb o mA bo X N) (hv : ft_val N p t) (hk : ft_ok o mA p t) : 0 ≤ ft_Y mA X p t ∧ ft_Y mA X p t ≤ 375 ∧ 0 ≤ ft_k mA bo p t ∧ ft_k mA bo p t ≤ 5 := by
  have e : ∀ j, j < 5 → 0 ≤ (if p j = true then (ft_pl (t j) : Int) * (X (3 * j + mA (t j)) : Int) else 0) ∧ (if p j = true then (ft_pl (t j) : Int) * (X (3 * j + mA (t j)) : Int) else 0) ≤ 75 ∧ 0 ≤ (if p j = true then (bo (mA (t j)) : Int) else 0) ∧ (if p j = true then (bo (mA (t j)) : Int) else 0) ≤ 1 := by
    intro j hj
    by_cases z : p j = true
    · rw [if_pos z, if_pos z]
      have v := hv.1 j hj z
      have a := ft_mulb (ft_pl_b (t j)) (h.1 j (t j) hj v.1 v.2 (hk j hj z))
      have b := h.2 (mA (t j))
      omega
    · rw [if_neg z, if_neg z]; omega
  have r1 := ft_sm_rng (fun j hj => ⟨(e j hj).1, (e j hj).2.1⟩)
  have r2 := ft_sm_rng (fun j hj => ⟨(e j hj).2.2.1, (e j hj).2.2.2⟩)
  exact ⟨r1.1, r1.2, r2.1, r2.2⟩
end
section
/-! what is learned of the plans, and what it says of the other questions -/
def ft_mA (M d c : Nat) : Nat := if (c - 1) / 5 < M then (c - 1) / 5 else d
theorem ft_mA_in {M d c : Nat} (h1 : 1 ≤ c) (h : c ≤ 5 * M) : ft_mA M d c = (c - 1) / 5 := if_pos (by omega)
theorem ft_mA_lt {M d c : Nat} (hd : d < M) : ft_mA M d c < M := by
  unfold ft_mA
  by_cases h : (c - 1) / 5 < M
  · rw [if_pos h]; exact h
  · rw [if_neg h]; exact hd
/-- job j can be done by machine m -/
def ft_o0 (M : Nat) (X : Nat → Nat) (j m : Nat) : Bool := decide (m < M ∧ 0 < X (3 * j + m))
theorem ft_o0_i {M : Nat} {X : Nat → Nat} {j m : Nat} : ft_o0 M X j m = true ↔ (m < M ∧ 0 < X (3 * j + m)) := decide_eq_true_iff
def ft_b0 (m : Nat) : Nat := 0 * m
theorem ft_b0_0 (m : Nat) : ft_b0 m = 0 := by unfold ft_b0; omega
def ft_b1 (l m : Nat) : Nat := if m = l then 1 else 0
theorem ft_b1_b (l m : Nat) : ft_b1 l m ≤ 1 := by
  unfold ft_b1
  by_cases e : m = l
  · rw [if_pos e]; omega
  · rw [if_neg e]; omega
/-- times and jobs: what the desk always keeps -/
def ft_D (M : Nat) (X : Nat → Nat) (p : Nat → Bool) : Prop := 1 ≤ M ∧ M ≤ 3 ∧ (∀ k, k < 15 → X k ≤ 15) ∧ (∀ j, j < 5 → p j = true → ∃ m, m < M ∧ 0 < X (3 * j + m))
/-- the answer of a question whose matching costs S -/
def ft_r (S : Int) : Int := if S < 100000 then (S + 7) / 8 else -1
theorem ft_k0 (mA : Nat → Nat) (p : Nat → Bool) (t : Nat → Nat) : ft_k mA ft_b0 p t = 0 := by
  unfold ft_k
  refine ft_sm_0 5 (fun j hj => ?_)
  show (if p j = true then (ft_b0 (mA (t j)) : Int) else 0) = 0
  rw [ft_b0_0]
  by_cases h : p j = true
  · rw [if_pos h]; rfl
  · rw [if_neg h]
theorem ft_cb_o {M d N : Nat} {X : Nat → Nat} {p : Nat → Bool} {o : Nat → Nat → Bool} {bo : Nat → Nat} (D : ft_D M X p) (hd : d < M) (ho : ∀ j m, j < 5 → o j m = true → ft_o0 M X j m = true) (hb : ∀ m, bo m ≤ 1) : ft_cb o (ft_mA M d) bo X N := by
  refine ⟨fun j c hj c1 c2 z => ?_, hb⟩
  have t := ft_o0_i.mp (ho j _ hj z)
  have l := ft_mA_lt (c := c) hd
  refine ⟨t.2, D.2.2.1 _ ?_⟩
  have := D.2.1
  omega
/-- a cheap matching, no machine liked: its plan -/
theorem ft_take {N : Nat} {p : Nat → Bool} {o : Nat → Nat → Bool} {mA X : Nat → Nat} {S : Int} (hc : ft_cb o mA ft_b0 X N) (hS : ft_opt N p (ft_K o mA ft_b0 X) S) (hlt : S < 100000) :
    ∃ t, ft_val N p t ∧ ft_ok o mA p t ∧ S = 8 * ft_Y mA X p t ∧ ft_r S = ft_Y mA X p t := by
  obtain ⟨⟨t, t1, t2⟩, _⟩ := hS
  have k := ft_cheap hc t1 (by rw [← t2]; exact hlt)
  have e := ft_K_ok (bo := ft_b0) (X := X) k
  rw [ft_k0] at e
  refine ⟨t, t1, k, by omega, ?_⟩
  unfold ft_r
  rw [if_pos hlt]
  omega
theorem ft_upto {N : Nat} {p : Nat → Bool} {o : Nat → Nat → Bool} {mA X : Nat → Nat} {S : Int} (hS : ft_opt N p (ft_K o mA ft_b0 X) S) {t : Nat → Nat} (h1 : ft_val N p t) (h2 : ft_ok o mA p t) : S ≤ 8 * ft_Y mA X p t := by
  have e := ft_K_ok (bo := ft_b0) (X := X) h2
  rw [ft_k0] at e
  have := hS.2 t h1
  omega
/-- no plan takes less than lt -/
def ft_F1 (M : Nat) (X : Nat → Nat) (p : Nat → Bool) (lt : Int) : Prop := ∀ t, ft_val (5 * M) p t → ft_ok (ft_o0 M X) (ft_mA M 0) p t → lt ≤ ft_Y (ft_mA M 0) X p t
/-- some open plan takes lt -/
def ft_F2 (M : Nat) (X : Nat → Nat) (p : Nat → Bool) (o : Nat → Nat → Bool) (lt : Int) : Prop := ∃ t, ft_val (5 * M) p t ∧ ft_ok o (ft_mA M 0) p t ∧ ft_Y (ft_mA M 0) X p t = lt
theorem ft_plan {M : Nat} {X : Nat → Nat} {p : Nat → Bool} (D : ft_D M X p) : ∃ t, ft_val (5 * M) p t ∧ ft_ok (ft_o0 M X) (ft_mA M 0) p t := by
  have ch : ∃ g : Nat → Nat, ∀ j, j < 5 → p j = true → g j < M ∧ 0 < X (3 * j + g j) := by
    refine ⟨fun j => if z : j < 5 ∧ p j = true then Classical.choose (D.2.2.2 j z.1 z.2) else 0, fun j h1 h2 => ?_⟩
    have e : (fun j => if z : j < 5 ∧ p j = true then Classical.choose (D.2.2.2 j z.1 z.2) else 0) j = Classical.choose (D.2.2.2 j h1 h2) := dif_pos ⟨h1, h2⟩
    rw [e]
    exact Classical.choose_spec (D.2.2.2 j h1 h2)
  obtain ⟨g, hg⟩ := ch
  refine ⟨fun j => 5 * g j + j + 1, ⟨fun j hj pj => ?_, fun i j hi hj pi pj e => ?_⟩, fun j hj pj => ?_⟩
  · have := hg j hj pj
    show 1 ≤ 5 * g j + j + 1 ∧ 5 * g j + j + 1 ≤ 5 * M
    omega
  · have e' : 5 * g i + i + 1 = 5 * g j + j + 1 := e
    omega
  · have := hg j hj pj
    show ft_o0 M X j (ft_mA M 0 (5 * g j + j + 1)) = true
    rw [ft_mA_in (by omega) (by omega), show (5 * g j + j + 1 - 1) / 5 = g j by omega]
    exact ft_o0_i.mpr this
theorem ft_start {M : Nat} {X : Nat → Nat} {p : Nat → Bool} {S : Int} (D : ft_D M X p) (hS : ft_opt (5 * M) p (ft_K (ft_o0 M X) (ft_mA M 0) ft_b0 X) S) :
    ft_F1 M X p (ft_r S) ∧ ft_F2 M X p (ft_o0 M X) (ft_r S) ∧ 0 ≤ ft_r S ∧ ft_r S ≤ 375 := by
  have hc : ft_cb (ft_o0 M X) (ft_mA M 0) ft_b0 X (5 * M) := ft_cb_o D (by have := D.1; omega) (fun _ _ _ h => h) (fun m => by rw [ft_b0_0]; omega)
  obtain ⟨t, t1, t2⟩ := ft_plan D
  have b := ft_Y_b hc t1 t2
  have l := ft_upto hS t1 t2
  obtain ⟨t', a1, a2, a3, a4⟩ := ft_take hc hS (by omega)
  have b' := ft_Y_b hc a1 a2
  refine ⟨fun y y1 y2 => ?_, ⟨t', a1, a2, a4.symm⟩, by omega, by omega⟩
  have := ft_upto hS y1 y2
  omega
/-- o with job j for machine m alone -/
def ft_on (o : Nat → Nat → Bool) (j m : Nat) : Nat → Nat → Bool := fun i k => if i = j then decide (k = m) else o i k
theorem ft_on_e {o : Nat → Nat → Bool} {j m k : Nat} : ft_on o j m j k = true ↔ k = m := by
  unfold ft_on
  rw [if_pos rfl]
  exact decide_eq_true_iff
theorem ft_on_n {o : Nat → Nat → Bool} {j m i k : Nat} (h : i ≠ j) : ft_on o j m i k = o i k := if_neg h
theorem ft_on_s {M : Nat} {X : Nat → Nat} {o : Nat → Nat → Bool} {j m : Nat} (ho : ∀ i k, i < 5 → o i k = true → ft_o0 M X i k = true) (hm : ft_o0 M X j m = true) : ∀ i k, i < 5 → ft_on o j m i k = true → ft_o0 M X i k = true := by
  intro i k hi h
  by_cases e : i = j
  · rw [e] at h ⊢
    rw [ft_on_e.mp h]
    exact hm
  · rw [ft_on_n e] at h
    exact ho i k hi h
/-- one machine tried for a job -/
theorem ft_try {M : Nat} {X : Nat → Nat} {p : Nat → Bool} {o : Nat → Nat → Bool} {S lt : Int} (D : ft_D M X p) (f1 : ft_F1 M X p lt) (l0 : 0 ≤ lt) (l1 : lt ≤ 375) (ho : ∀ i k, i < 5 → o i k = true → ft_o0 M X i k = true)
    (hS : ft_opt (5 * M) p (ft_K o (ft_mA M 0) ft_b0 X) S) : (ft_r S = lt ↔ ft_F2 M X p o lt) ∧ (ft_r S = -1 ∨ lt ≤ ft_r S) := by
  have hc : ft_cb o (ft_mA M 0) ft_b0 X (5 * M) := ft_cb_o D (by have := D.1; omega) ho (fun m => by rw [ft_b0_0]; omega)
  have up : ∀ t, ft_ok o (ft_mA M 0) p t → ft_ok (ft_o0 M X) (ft_mA M 0) p t := fun t h j hj pj => ho j _ hj (h j hj pj)
  by_cases z : S < 100000
  · obtain ⟨t, a1, a2, a3, a4⟩ := ft_take hc hS z
    have g := f1 t a1 (up t a2)
    refine ⟨⟨fun e => ⟨t, a1, a2, by omega⟩, fun e => ?_⟩, Or.inr (by omega)⟩
    obtain ⟨y, y1, y2, y3⟩ := e
    have := ft_upto hS y1 y2
    omega
  · have e : ft_r S = -1 := if_neg z
    refine ⟨⟨fun t => by omega, fun t => ?_⟩, Or.inl e⟩
    obtain ⟨y, y1, y2, y3⟩ := t
    have := ft_upto hS y1 y2
    omega
/-- a machine for job j is found -/
theorem ft_F2_split {M : Nat} {X : Nat → Nat} {p : Nat → Bool} {o : Nat → Nat → Bool} {lt : Int} {j : Nat} (hj : j < 5) (pj : p j = true) (f2 : ft_F2 M X p o lt) : ∃ m, o j m = true ∧ ft_F2 M X p (ft_on o j m) lt := by
  obtain ⟨t, t1, t2, t3⟩ := f2
  refine ⟨ft_mA M 0 (t j), t2 j hj pj, t, t1, fun i hi pi => ?_, t3⟩
  by_cases e : i = j
  · rw [e]; exact ft_on_e.mpr rfl
  · rw [ft_on_n e]; exact t2 i hi pi
/-- what is known: no plan below lt, and one of lt with the machines b -/
def ft_F (M : Nat) (X : Nat → Nat) (p : Nat → Bool) (lt : Int) (b : Nat → Nat) : Prop := 0 ≤ lt ∧ lt ≤ 375 ∧ ft_F1 M X p lt ∧ ∃ t, ft_val (5 * M) p t ∧ ft_ok (ft_o0 M X) (ft_mA M 0) p t ∧ (∀ j, j < 5 → p j = true → ft_mA M 0 (t j) = b j) ∧ ft_Y (ft_mA M 0) X p t = lt
theorem ft_F_b {M : Nat} {X : Nat → Nat} {p : Nat → Bool} {lt : Int} {b : Nat → Nat} (h : ft_F M X p lt b) {j : Nat} (hj : j < 5) (pj : p j = true) : b j < M ∧ 0 < X (3 * j + b j) := by
  obtain ⟨_, _, _, t, t1, t2, t3, t4⟩ := h
  have := ft_o0_i.mp (t2 j hj pj)
  rw [t3 j hj pj] at this
  exact this
theorem ft_q_with {M : Nat} {X : Nat → Nat} {p : Nat → Bool} {lt S : Int} {b : Nat → Nat} (D : ft_D M X p) (F : ft_F M X p lt b) {j m : Nat} (hm : ft_o0 M X j m = true) (hS : ft_opt (5 * M) p (ft_K (ft_on (ft_o0 M X) j m) (ft_mA M 0) ft_b0 X) S) :
    (ft_r S = -1 ∨ lt ≤ ft_r S) ∧ (m = b j → ft_r S = lt) := by
  obtain ⟨l0, l1, f1, t, t1, t2, t3, t4⟩ := F
  obtain ⟨a, c⟩ := ft_try D f1 l0 l1 (ft_on_s (fun _ _ _ h => h) hm) hS
  refine ⟨c, fun e => a.mpr ⟨t, t1, fun i hi pi => ?_, t4⟩⟩
  by_cases z : i = j
  · rw [z]
    refine ft_on_e.mpr ?_
    rw [e, ← z]
    exact t3 i hi pi
  · rw [ft_on_n z]; exact t2 i hi pi
theorem ft_q_idle {M : Nat} {X : Nat → Nat} {p : Nat → Bool} {o : Nat → Nat → Bool} {lt S : Int} {b : Nat → Nat} (D : ft_D M X p) (F : ft_F M X p lt b) (ho : ∀ i k, i < 5 → o i k = true → ft_o0 M X i k = true) (hS : ft_opt (5 * M) p (ft_K o (ft_mA M 0) ft_b0 X) S) :
    ft_r S = -1 ∨ lt ≤ ft_r S := by
  obtain ⟨l0, l1, f1, _⟩ := F
  exact (ft_try D f1 l0 l1 ho hS).2
/-- the set without job j -/
def ft_wo (p : Nat → Bool) (j : Nat) : Nat → Bool := fun i => if i = j then false else p i
theorem ft_wo_i {p : Nat → Bool} {j i : Nat} : ft_wo p j i = true ↔ (i ≠ j ∧ p i = true) := by
  unfold ft_wo
  by_cases e : i = j
  · rw [if_pos e]; exact ⟨fun h => absurd h (by decide), fun h => absurd e h.1⟩
  · rw [if_neg e]; exact ⟨fun h => ⟨e, h⟩, fun h => h.2⟩
theorem ft_q_wo {M : Nat} {X : Nat → Nat} {p : Nat → Bool} {lt S : Int} {b : Nat → Nat} (D : ft_D M X p) (F : ft_F M X p lt b) {j : Nat} (hj : j < 5) (pj : p j = true) (hS : ft_opt (5 * M) (ft_wo p j) (ft_K (ft_o0 M X) (ft_mA M 0) ft_b0 X) S) : ft_r S < lt := by
  obtain ⟨l0, l1, f1, t, t1, t2, t3, t4⟩ := F
  have v : ft_val (5 * M) (ft_wo p j) t := ⟨fun i hi pi => t1.1 i hi (ft_wo_i.mp pi).2, fun i k hi hk pi pk e => t1.2 i k hi hk (ft_wo_i.mp pi).2 (ft_wo_i.mp pk).2 e⟩
  have k : ft_ok (ft_o0 M X) (ft_mA M 0) (ft_wo p j) t := fun i hi pi => t2 i hi (ft_wo_i.mp pi).2
  have up := ft_upto hS v k
  have e : ft_Y (ft_mA M 0) X p t = (if p j = true then (ft_pl (t j) : Int) * (X (3 * j + ft_mA M 0 (t j)) : Int) else 0) + ft_Y (ft_mA M 0) X (ft_wo p j) t := by
    unfold ft_Y
    rw [ft_sm_out (fun j => if p j = true then (ft_pl (t j) : Int) * (X (3 * j + ft_mA M 0 (t j)) : Int) else 0) j 5 hj]
    refine congrArg _ (ft_sm_cg 5 (fun i hi => ?_))
    show (if i = j then 0 else (if p i = true then (ft_pl (t i) : Int) * (X (3 * i + ft_mA M 0 (t i)) : Int) else 0)) = (if ft_wo p j i = true then (ft_pl (t i) : Int) * (X (3 * i + ft_mA M 0 (t i)) : Int) else 0)
    by_cases z : i = j
    · rw [if_pos z, if_neg (fun h => (ft_wo_i.mp h).1 z)]
    · rw [if_neg z]
      by_cases g : p i = true
      · rw [if_pos g, if_pos (ft_wo_i.mpr ⟨z, g⟩)]
      · rw [if_neg g, if_neg (fun h => g (ft_wo_i.mp h).2)]
  rw [if_pos pj] at e
  have tt := ft_o0_i.mp (t2 j hj pj)
  have m1 := ft_mulb (ft_pl_b (t j)) (b := X (3 * j + ft_mA M 0 (t j))) ⟨tt.2, D.2.2.1 _ (by have := D.2.1; omega)⟩
  unfold ft_r
  by_cases z : S < 100000
  · rw [if_pos z]; omega
  · rw [if_neg z]; omega
theorem ft_q_dbl {M d : Nat} {X : Nat → Nat} {p : Nat → Bool} {lt S : Int} {b : Nat → Nat} (F : ft_F M X p lt b) (hS : ft_opt (5 * (M + 1)) p (ft_K (ft_o0 M X) (ft_mA M d) ft_b0 X) S) : ft_r S ≤ lt := by
  obtain ⟨l0, l1, f1, t, t1, t2, t3, t4⟩ := F
  have eq : ∀ j, j < 5 → p j = true → ft_mA M d (t j) = ft_mA M 0 (t j) := fun j hj pj => by
    have := t1.1 j hj pj
    rw [ft_mA_in this.1 this.2, ft_mA_in this.1 this.2]
  have up := ft_upto (t := t) hS ⟨fun i hi pi => by have := t1.1 i hi pi; omega, t1.2⟩ (fun i hi pi => by rw [eq i hi pi]; exact t2 i hi pi)
  have e : ft_Y (ft_mA M d) X p t = ft_Y (ft_mA M 0) X p t := by
    unfold ft_Y
    refine ft_sm_cg 5 (fun i hi => ?_)
    show (if p i = true then (ft_pl (t i) : Int) * (X (3 * i + ft_mA M d (t i)) : Int) else 0) = (if p i = true then (ft_pl (t i) : Int) * (X (3 * i + ft_mA M 0 (t i)) : Int) else 0)
    by_cases g : p i = true
    · rw [if_pos g, if_pos g, eq i hi g]
    · rw [if_neg g, if_neg g]
  unfold ft_r
  by_cases z : S < 100000
  · rw [if_pos z]; omega
  · rw [if_neg z]; omega
/-- how many jobs of the set have machine m -/
def ft_n (p : Nat → Bool) (b : Nat → Nat) (m : Nat) : Nat → Int := ft_sm (fun j => if p j = true then (ft_b1 m (b j) : Int) else 0)
theorem ft_q_most {M : Nat} {X : Nat → Nat} {p : Nat → Bool} {lt S : Int} {b : Nat → Nat} (D : ft_D M X p) (F : ft_F M X p lt b) {m : Nat} (hS : ft_opt (5 * M) p (ft_K (ft_o0 M X) (ft_mA M 0) (ft_b1 m) X) S) :
    -5 ≤ S ∧ S ≤ 3000 ∧ ft_n p b m 5 ≤ (S + 7) / 8 * 8 - S := by
  obtain ⟨l0, l1, f1, t, t1, t2, t3, t4⟩ := F
  have hc : ft_cb (ft_o0 M X) (ft_mA M 0) (ft_b1 m) X (5 * M) := ft_cb_o D (by have := D.1; omega) (fun _ _ _ h => h) (ft_b1_b m)
  have en : ft_k (ft_mA M 0) (ft_b1 m) p t = ft_n p b m 5 := by
    unfold ft_k ft_n
    refine ft_sm_cg 5 (fun i hi => ?_)
    show (if p i = true then (ft_b1 m (ft_mA M 0 (t i)) : Int) else 0) = (if p i = true then (ft_b1 m (b i) : Int) else 0)
    by_cases g : p i = true
    · rw [if_pos g, if_pos g, t3 i hi g]
    · rw [if_neg g, if_neg g]
  have e := ft_K_ok (bo := ft_b1 m) (X := X) t2
  have up := hS.2 t t1
  have bb := ft_Y_b hc t1 t2
  rw [en] at e bb
  obtain ⟨⟨y, y1, y2⟩, _⟩ := hS
  have yk := ft_cheap hc y1 (by omega)
  have e' := ft_K_ok (bo := ft_b1 m) (X := X) yk
  have g := f1 y y1 yk
  have b' := ft_Y_b hc y1 yk
  refine ⟨by omega, by omega, ?_⟩
  have e8 : (S + 7) / 8 = ft_Y (ft_mA M 0) X p y := by omega
  rw [e8]
  omega
end
section
/-! the finishing times of the plan that is known add up to what it takes -/
theorem ft_sm_swap (g : Nat → Nat → Int) (n : Nat) : ∀ m, ft_sm (fun i => ft_sm (fun j => g i j) n) m = ft_sm (fun j => ft_sm (fun i => g i j) m) n := by
  intro m
  induction m with
  | zero => exact (ft_sm_0 n (fun _ _ => rfl)).symm
  | succ m ih =>
    show ft_sm (fun i => ft_sm (fun j => g i j) n) m + ft_sm (fun j => g m j) n = _
    rw [ih, ← ft_sm_add]
    rfl
theorem ft_sm_mul (x : Int) (f : Nat → Int) (n : Nat) : ft_sm (fun j => x * f j) n = x * ft_sm f n := by
  induction n with
  | zero => exact (Int.mul_zero x).symm
  | succ n ih =>
    show ft_sm (fun j => x * f j) n + x * f n = x * (ft_sm f n + f n)
    rw [ih, Int.mul_add]
theorem ft_cnt_sm (q : Nat → Bool) (x : Int) (n : Nat) : ft_sm (fun j => if q j = true then x else 0) n = x * (ft_cnt q n : Int) := by
  induction n with
  | zero => exact (Int.mul_zero x).symm
  | succ n ih =>
    show ft_sm (fun j => if q j = true then x else 0) n + (if q n = true then x else 0) = _
    rw [ih]
    by_cases h : q n = true
    · rw [if_pos h, ft_cnt_t h, Int.natCast_add, Int.mul_add]
      show _ = x * (ft_cnt q n : Int) + x * 1
      rw [Int.mul_one]
    · rw [if_neg h, ft_cnt_f h, Int.add_zero]
theorem ft_cnt_sub {p q : Nat → Bool} : ∀ n, (∀ k, k < n → p k = true → q k = true) → ft_cnt p n ≤ ft_cnt q n := by
  intro n
  induction n with
  | zero => intro _; exact Nat.le_refl _
  | succ n ih =>
    intro h
    have ih' := ih (fun k hk => h k (by omega))
    by_cases e : p n = true
    · rw [ft_cnt_t e, ft_cnt_t (h n (by omega) e)]; omega
    · rw [ft_cnt_f e]
      by_cases g : q n = true
      · rw [ft_cnt_t g]; omega
      · rw [ft_cnt_f g]; omega
theorem ft_cnt_ssub {p q : Nat → Bool} {a : Nat} : ∀ n, (∀ k, k < n → p k = true → q k = true) → a < n → q a = true → ¬ p a = true → ft_cnt p n < ft_cnt q n := by
  intro n
  induction n with
  | zero => intro _ h; omega
  | succ n ih =>
    intro h ha qa pa
    by_cases e : a = n
    · rw [e] at qa pa
      rw [ft_cnt_t qa, ft_cnt_f pa]
      have := ft_cnt_sub n (fun k hk => h k (show k < n + 1 by omega))
      omega
    · have ih' := ih (fun k hk => h k (by omega)) (by omega) qa pa
      by_cases f : p n = true
      · rw [ft_cnt_t f, ft_cnt_t (h n (by omega) f)]; omega
      · rw [ft_cnt_f f]
        by_cases g : q n = true
        · rw [ft_cnt_t g]; omega
        · rw [ft_cnt_f g]; omega
/-- different places 1 .. y -/
theorem ft_cnt_in {q : Nat → Bool} {f : Nat → Nat} {n y : Nat} (h1 : ∀ j, j < n → q j = true → 1 ≤ f j ∧ f j ≤ y) (h2 : ∀ i j, i < n → j < n → q i = true → q j = true → f i = f j → i = j) : ft_cnt q n ≤ y := by
  have ch : ∃ J : Nat → Nat, ∀ r, r < ft_cnt q n → J r < n ∧ q (J r) = true ∧ ft_cnt q (J r) = r := by
    refine ⟨fun r => if z : r < ft_cnt q n then Classical.choose (ft_cnt_on q n z) else 0, fun r hr => ?_⟩
    have e : (fun r => if z : r < ft_cnt q n then Classical.choose (ft_cnt_on q n z) else 0) r = Classical.choose (ft_cnt_on q n hr) := dif_pos hr
    rw [e]
    exact Classical.choose_spec (ft_cnt_on q n hr)
  obtain ⟨J, hJ⟩ := ch
  refine ft_pig (fun r => f (J r) - 1) (fun r hr => ?_) (fun r s hr hs e => ?_)
  · have a := hJ r hr
    have := h1 (J r) a.1 a.2.1
    show f (J r) - 1 < y
    omega
  · have a := hJ r hr
    have b := hJ s hs
    have a1 := h1 (J r) a.1 a.2.1
    have b1 := h1 (J s) b.1 b.2.1
    have e' : f (J r) - 1 = f (J s) - 1 := e
    have := h2 (J r) (J s) a.1 b.1 a.2.1 b.2.1 (by omega)
    rw [← a.2.2, ← b.2.2, this]
/-- job i isn't behind job j, on the same machine -/
def ft_bf (p : Nat → Bool) (b x : Nat → Nat) (i j : Nat) : Bool := decide ((p i = true ∧ p j = true ∧ b i = b j) ∧ (x i < x j ∨ (x i = x j ∧ i ≤ j)))
theorem ft_bf_i {p : Nat → Bool} {b x : Nat → Nat} {i j : Nat} : ft_bf p b x i j = true ↔ ((p i = true ∧ p j = true ∧ b i = b j) ∧ (x i < x j ∨ (x i = x j ∧ i ≤ j))) := decide_eq_true_iff
/-- when job j is done -/
def ft_fj (p : Nat → Bool) (b x : Nat → Nat) (j : Nat) : Nat → Int := ft_sm (fun i => if ft_bf p b x i j = true then (x i : Int) else 0)
def ft_fs (p : Nat → Bool) (b x : Nat → Nat) : Nat → Int := ft_sm (fun j => if p j = true then ft_fj p b x j 5 else 0)
theorem ft_fs_2 (p : Nat → Bool) (b x : Nat → Nat) : ft_fs p b x 5 = ft_sm (fun i => ft_sm (fun j => if ft_bf p b x i j = true then (x i : Int) else 0) 5) 5 := by
  rw [ft_sm_swap]
  unfold ft_fs
  refine ft_sm_cg 5 (fun j hj => ?_)
  show (if p j = true then ft_fj p b x j 5 else 0) = ft_sm (fun i => if ft_bf p b x i j = true then (x i : Int) else 0) 5
  by_cases h : p j = true
  · rw [if_pos h]; rfl
  · rw [if_neg h]
    exact (ft_sm_0 5 (fun i hi => if_neg (fun z => h (ft_bf_i.mp z).1.2.1))).symm
/-- the place of job i, counted from the end -/
def ft_ps (p : Nat → Bool) (b x : Nat → Nat) (i : Nat) : Nat := ft_cnt (fun j => ft_bf p b x i j) 5
theorem ft_fs_3 (p : Nat → Bool) (b x : Nat → Nat) : ft_fs p b x 5 = ft_sm (fun i => (x i : Int) * (ft_ps p b x i : Int)) 5 := by
  rw [ft_fs_2]
  refine ft_sm_cg 5 (fun i hi => ?_)
  exact ft_cnt_sm (fun j => ft_bf p b x i j) (x i : Int) 5
theorem ft_ps_b {p : Nat → Bool} {b x : Nat → Nat} {i : Nat} (hi : i < 5) (pi : p i = true) : 1 ≤ ft_ps p b x i ∧ ft_ps p b x i ≤ 5 := by
  refine ⟨?_, ft_cnt_le _ 5⟩
  have z : ft_bf p b x i i = true := ft_bf_i.mpr ⟨⟨pi, pi, rfl⟩, Or.inr ⟨rfl, Nat.le_refl i⟩⟩
  have := ft_cnt_lt (fun j => ft_bf p b x i j) hi z
  unfold ft_ps
  omega
theorem ft_ps_lt {p : Nat → Bool} {b x : Nat → Nat} {i j : Nat} (hi : i < 5) (pi : p i = true) (pj : p j = true) (e : b i = b j) (h : x i < x j ∨ (x i = x j ∧ i < j)) : ft_ps p b x j < ft_ps p b x i := by
  refine ft_cnt_ssub (a := i) 5 (fun k hk z => ?_) hi ?_ ?_
  · have z' := ft_bf_i.mp z
    exact ft_bf_i.mpr ⟨⟨pi, z'.1.2.1, e.trans z'.1.2.2⟩, by have := z'.2; omega⟩
  · exact ft_bf_i.mpr ⟨⟨pi, pi, rfl⟩, Or.inr ⟨rfl, Nat.le_refl i⟩⟩
  · intro z
    have := (ft_bf_i.mp z).2
    omega
theorem ft_ps_inj {p : Nat → Bool} {b x : Nat → Nat} {i j : Nat} (hi : i < 5) (hj : j < 5) (pi : p i = true) (pj : p j = true) (e : b i = b j) (h : ft_ps p b x i = ft_ps p b x j) : i = j := by
  by_cases z : i = j
  · exact z
  · by_cases g : x i < x j ∨ (x i = x j ∧ i < j)
    · have := ft_ps_lt (x := x) hi pi pj e g; omega
    · have := ft_ps_lt (x := x) hj pj pi e.symm (by omega); omega
theorem ft_pair {e c1 c2 c3 c4 : Prop} [Decidable c1] [Decidable c2] [Decidable c3] [Decidable c4] [Decidable (e ∧ c1)] [Decidable (e ∧ c2)] [Decidable (e ∧ c3)] [Decidable (e ∧ c4)] {a b : Nat}
    (h : e → (if c1 then (a : Int) else 0) + (if c2 then (b : Int) else 0) ≤ (if c3 then (a : Int) else 0) + (if c4 then (b : Int) else 0)) :
    (if e ∧ c1 then (a : Int) else 0) + (if e ∧ c2 then (b : Int) else 0) ≤ (if e ∧ c3 then (a : Int) else 0) + (if e ∧ c4 then (b : Int) else 0) := by
  by_cases he : e
  · have r : ∀ (c : Prop) [Decidable c] [Decidable (e ∧ c)] (y : Int), (if e ∧ c then y else 0) = if c then y else 0 := by
      intro c _ _ y
      by_cases z : c
      · rw [if_pos ⟨he, z⟩, if_pos z]
      · rw [if_neg (fun t => z t.2), if_neg z]
    rw [r, r, r, r]
    exact h he
  · rw [if_neg (fun t => he t.1), if_neg (fun t => he t.1), if_neg (fun t => he t.1), if_neg (fun t => he t.1)]
    exact Int.le_refl _
theorem ft_pairN {xi xj i j a b : Nat} (h : i ≠ j → a ≠ b) : (if xi < xj ∨ (xi = xj ∧ i ≤ j) then (xi : Int) else 0) + (if xj < xi ∨ (xj = xi ∧ j ≤ i) then (xj : Int) else 0) ≤ (if b ≤ a then (xi : Int) else 0) + (if a ≤ b then (xj : Int) else 0) ∨ i = j := by
  by_cases z : i = j
  · exact Or.inr z
  · have := h z
    left
    split <;> split <;> split <;> split <;> omega
theorem ft_fs_F {M : Nat} {X : Nat → Nat} {p : Nat → Bool} {lt : Int} {b : Nat → Nat} (F : ft_F M X p lt b) : ft_fs p b (fun i => X (3 * i + b i)) 5 = lt := by
  have Fb := fun j hj pj => ft_F_b F (j := j) hj pj
  obtain ⟨l0, l1, f1, t, t1, t2, t3, t4⟩ := F
  generalize hx : (fun i => X (3 * i + b i)) = x
  have ex : ∀ i, X (3 * i + b i) = x i := fun i => by rw [← hx]
  -- the plan by times
  have up : lt ≤ ft_fs p b x 5 := by
    have inM : ∀ j, j < 5 → p j = true → 1 ≤ 5 * b j + ft_ps p b x j ∧ 5 * b j + ft_ps p b x j ≤ 5 * M ∧ ft_mA M 0 (5 * b j + ft_ps p b x j) = b j ∧ ft_pl (5 * b j + ft_ps p b x j) = ft_ps p b x j := by
      intro j hj pj
      have a := ft_ps_b (b := b) (x := x) hj pj
      have c := Fb j hj pj
      refine ⟨by omega, by omega, ?_, ?_⟩
      · rw [ft_mA_in (by omega) (by omega)]; omega
      · unfold ft_pl; omega
    have g := f1 (fun j => 5 * b j + ft_ps p b x j) ⟨fun j hj pj => ⟨(inM j hj pj).1, (inM j hj pj).2.1⟩, fun i j hi hj pi pj e => ?_⟩ (fun j hj pj => ?_)
    · have e : ft_Y (ft_mA M 0) X p (fun j => 5 * b j + ft_ps p b x j) = ft_fs p b x 5 := by
        rw [ft_fs_3]
        unfold ft_Y
        refine ft_sm_cg 5 (fun j hj => ?_)
        show (if p j = true then (ft_pl (5 * b j + ft_ps p b x j) : Int) * (X (3 * j + ft_mA M 0 (5 * b j + ft_ps p b x j)) : Int) else 0) = (x j : Int) * (ft_ps p b x j : Int)
        by_cases pj : p j = true
        · have a := inM j hj pj
          rw [if_pos pj, a.2.2.1, a.2.2.2, ex j, Int.mul_comm]
        · rw [if_neg pj]
          have : ft_ps p b x j = 0 := by
            unfold ft_ps
            have : ∀ n, ft_cnt (fun k => ft_bf p b x j k) n = 0 := by
              intro n
              induction n with
              | zero => rfl
              | succ n ih => rw [ft_cnt_f (fun z => pj (ft_bf_i.mp z).1.1), ih]
            exact this 5
          rw [this]
          exact (Int.mul_zero _).symm
      rw [e] at g
      exact g
    · have a := ft_ps_b (b := b) (x := x) hi pi
      have c := ft_ps_b (b := b) (x := x) hj pj
      have e' : 5 * b i + ft_ps p b x i = 5 * b j + ft_ps p b x j := e
      exact ft_ps_inj (b := b) (x := x) hi hj pi pj (by omega) (by omega)
    · show ft_o0 M X j (ft_mA M 0 (5 * b j + ft_ps p b x j)) = true
      rw [(inM j hj pj).2.2.1]
      exact ft_o0_i.mpr (Fb j hj pj)
  have pinj : ∀ i j, i < 5 → j < 5 → p i = true → p j = true → b i = b j → ft_pl (t i) = ft_pl (t j) → i = j := by
    intro i j hi hj pi pj e h
    have a := t1.1 i hi pi
    have c := t1.1 j hj pj
    have a3 := t3 i hi pi
    have c3 := t3 j hj pj
    rw [ft_mA_in a.1 a.2] at a3
    rw [ft_mA_in c.1 c.2] at c3
    refine t1.2 i j hi hj pi pj ?_
    unfold ft_pl at h
    omega
  -- no plan with these machines takes less
  have lo : ft_fs p b x 5 ≤ lt := by
    have A1 : ft_sm (fun i => ft_sm (fun j => if (p i = true ∧ p j = true ∧ b i = b j) ∧ ft_pl (t j) ≤ ft_pl (t i) then (x i : Int) else 0) 5) 5 ≤ lt := by
      rw [← t4]
      unfold ft_Y
      refine ft_sm_le 5 (fun i hi => ?_)
      show ft_sm (fun j => if (p i = true ∧ p j = true ∧ b i = b j) ∧ ft_pl (t j) ≤ ft_pl (t i) then (x i : Int) else 0) 5 ≤ (if p i = true then (ft_pl (t i) : Int) * (X (3 * i + ft_mA M 0 (t i)) : Int) else 0)
      by_cases pi : p i = true
      · rw [if_pos pi, t3 i hi pi, ex i]
        have e : ft_sm (fun j => if (p i = true ∧ p j = true ∧ b i = b j) ∧ ft_pl (t j) ≤ ft_pl (t i) then (x i : Int) else 0) 5 = ft_sm (fun j => if (fun j => decide ((p i = true ∧ p j = true ∧ b i = b j) ∧ ft_pl (t j) ≤ ft_pl (t i))) j = true then (x i : Int) else 0) 5 := by
          refine ft_sm_cg 5 (fun j hj => ?_)
          show (if (p i = true ∧ p j = true ∧ b i = b j) ∧ ft_pl (t j) ≤ ft_pl (t i) then (x i : Int) else 0) = (if decide ((p i = true ∧ p j = true ∧ b i = b j) ∧ ft_pl (t j) ≤ ft_pl (t i)) = true then (x i : Int) else 0)
          by_cases z : (p i = true ∧ p j = true ∧ b i = b j) ∧ ft_pl (t j) ≤ ft_pl (t i)
          · rw [if_pos z, if_pos (decide_eq_true_iff.mpr z)]
          · rw [if_neg z, if_neg (fun y => z (decide_eq_true_iff.mp y))]
        rw [e, ft_cnt_sm, Int.mul_comm]
        have c := ft_cnt_in (q := fun j => decide ((p i = true ∧ p j = true ∧ b i = b j) ∧ ft_pl (t j) ≤ ft_pl (t i))) (f := fun j => ft_pl (t j)) (n := 5) (y := ft_pl (t i))
          (fun j hj z => ⟨(ft_pl_b (t j)).1, (decide_eq_true_iff.mp z).2⟩)
          (fun j k hj hk zj zk e => by
            have a := decide_eq_true_iff.mp zj
            have c := decide_eq_true_iff.mp zk
            exact pinj j k hj hk a.1.2.1 c.1.2.1 (a.1.2.2.symm.trans c.1.2.2) e)
        exact Int.mul_le_mul_of_nonneg_right (Int.ofNat_le.mpr c) (Int.natCast_nonneg _)
      · rw [if_neg pi, ft_sm_0 5 (fun j hj => if_neg (fun z => pi z.1.1))]
        exact Int.le_refl _
    have two : ∀ g : Nat → Nat → Int, ft_sm (fun i => ft_sm (fun j => g i j + g j i) 5) 5 = ft_sm (fun i => ft_sm (fun j => g i j) 5) 5 + ft_sm (fun i => ft_sm (fun j => g i j) 5) 5 := by
      intro g
      have e1 : ft_sm (fun i => ft_sm (fun j => g i j + g j i) 5) 5 = ft_sm (fun i => ft_sm (fun j => g i j) 5 + ft_sm (fun j => g j i) 5) 5 := ft_sm_cg 5 (fun i hi => ft_sm_add (fun j => g i j) (fun j => g j i) 5)
      rw [e1, ft_sm_add, ft_sm_swap (fun i j => g j i) 5 5]
    have P : ft_sm (fun i => ft_sm (fun j => (if ft_bf p b x i j = true then (x i : Int) else 0) + (if ft_bf p b x j i = true then (x j : Int) else 0)) 5) 5 ≤ ft_sm (fun i => ft_sm (fun j => (if (p i = true ∧ p j = true ∧ b i = b j) ∧ ft_pl (t j) ≤ ft_pl (t i) then (x i : Int) else 0) + (if (p j = true ∧ p i = true ∧ b j = b i) ∧ ft_pl (t i) ≤ ft_pl (t j) then (x j : Int) else 0)) 5) 5 := by
      refine ft_sm_le 5 (fun i hi => ft_sm_le 5 (fun j hj => ?_))
      have cg : ∀ (c d : Prop) [Decidable c] [Decidable d] (y : Int), (c ↔ d) → (if c then y else 0) = (if d then y else 0) := by
        intro c d _ _ y h
        by_cases z : c
        · rw [if_pos z, if_pos (h.mp z)]
        · rw [if_neg z, if_neg (fun w => z (h.mpr w))]
      have sy : (p j = true ∧ p i = true ∧ b j = b i) ↔ (p i = true ∧ p j = true ∧ b i = b j) := ⟨fun z => ⟨z.2.1, z.1, z.2.2.symm⟩, fun z => ⟨z.2.1, z.1, z.2.2.symm⟩⟩
      rw [cg _ _ (x i : Int) (ft_bf_i (p := p) (b := b) (x := x) (i := i) (j := j)), cg _ _ (x j : Int) ((ft_bf_i (p := p) (b := b) (x := x) (i := j) (j := i)).trans (and_congr sy Iff.rfl)), cg _ ((p i = true ∧ p j = true ∧ b i = b j) ∧ ft_pl (t i) ≤ ft_pl (t j)) (x j : Int) (and_congr sy Iff.rfl)]
      refine ft_pair (fun he => ?_)
      rcases ft_pairN (xi := x i) (xj := x j) (i := i) (j := j) (a := ft_pl (t i)) (b := ft_pl (t j)) (fun n z => n (pinj i j hi hj he.1 he.2.1 he.2.2 z)) with z | z
      · exact z
      · rw [z, if_pos (Or.inr ⟨rfl, Nat.le_refl j⟩), if_pos (Nat.le_refl _)]
        exact Int.le_refl _
    rw [two (fun i j => if ft_bf p b x i j = true then (x i : Int) else 0), two (fun i j => if (p i = true ∧ p j = true ∧ b i = b j) ∧ ft_pl (t j) ≤ ft_pl (t i) then (x i : Int) else 0)] at P
    rw [ft_fs_2]
    omega
  omega
end
section
/-! whole numbers in an int -/
def ft_Z (x : Int) : Int32 := Int32.ofInt x
theorem ft_Z_add (a b : Int) : ft_Z a + ft_Z b = ft_Z (a + b) := (Int32.ofInt_add a b).symm
theorem ft_Z_sub (a b : Int) : ft_Z a - ft_Z b = ft_Z (a - b) := (Int32.ofInt_sub a b).symm
theorem ft_Z_mul (a b : Int) : ft_Z a * ft_Z b = ft_Z (a * b) := (Int32.ofInt_mul a b).symm
theorem ft_Z_n (n : Nat) : nI n = ft_Z (n : Int) := Int32.ofInt_eq_ofNat.symm
theorem ft_Z_0 : ft_Z 0 = 0 := rfl
theorem ft_Z_i {x : Int} (h : -1000000000 ≤ x ∧ x ≤ 1000000000) : (ft_Z x).toInt = x := Int32.toInt_ofInt_of_le (by omega) (by omega)
theorem ft_Z_lt {a b : Int} (ha : -1000000000 ≤ a ∧ a ≤ 1000000000) (hb : -1000000000 ≤ b ∧ b ≤ 1000000000) : ft_Z a < ft_Z b ↔ a < b := by
  rw [Int32.lt_iff_toInt_lt, ft_Z_i ha, ft_Z_i hb]
theorem ft_Z_le {a b : Int} (ha : -1000000000 ≤ a ∧ a ≤ 1000000000) (hb : -1000000000 ≤ b ∧ b ≤ 1000000000) : ft_Z a ≤ ft_Z b ↔ a ≤ b := by
  rw [Int32.le_iff_toInt_le, ft_Z_i ha, ft_Z_i hb]
theorem ft_Z_eq {a b : Int} (ha : -1000000000 ≤ a ∧ a ≤ 1000000000) (hb : -1000000000 ≤ b ∧ b ≤ 1000000000) : ft_Z a = ft_Z b ↔ a = b := by
  rw [← Int32.toInt_inj, ft_Z_i ha, ft_Z_i hb]
theorem ft_lt {x y : Int32} {A B : Prop} (a b : Int) (hx : x = ft_Z a) (hy : y = ft_Z b) (ha : -1000000000 ≤ a ∧ a ≤ 1000000000) (hb : -1000000000 ≤ b ∧ b ≤ 1000000000) (f : a < b → A) (g : b ≤ a → B) : (x < y → A) ∧ (¬ x < y → B) := by
  subst hx hy
  rw [ft_Z_lt ha hb]
  exact ⟨f, fun z => g (by omega)⟩
theorem ft_le {x y : Int32} {A B : Prop} (a b : Int) (hx : x = ft_Z a) (hy : y = ft_Z b) (ha : -1000000000 ≤ a ∧ a ≤ 1000000000) (hb : -1000000000 ≤ b ∧ b ≤ 1000000000) (f : a ≤ b → A) (g : b < a → B) : (x ≤ y → A) ∧ (¬ x ≤ y → B) := by
  subst hx hy
  rw [ft_Z_le ha hb]
  exact ⟨f, fun z => g (by omega)⟩
theorem ft_eq {x y : Int32} {A B : Prop} (a b : Int) (hx : x = ft_Z a) (hy : y = ft_Z b) (ha : -1000000000 ≤ a ∧ a ≤ 1000000000) (hb : -1000000000 ≤ b ∧ b ≤ 1000000000) (f : a = b → A) (g : a ≠ b → B) : (x = y → A) ∧ (¬ x = y → B) := by
  subst hx hy
  rw [ft_Z_eq ha hb]
  exact ⟨f, g⟩
theorem ft_by : ∀ n, n < 128 → (nI n).toInt8.toInt32 = nI n := by decide +kernel
theorem ft_vb {n : Nat} (h : n < 128) : vp_nar .byte (nI n) = nI n := by rw [vp_nar_byte, ft_by n h]
/-- a place written -/
def ft_up (f : Nat → Int) (k : Nat) (x : Int) : Nat → Int := fun j => if j = k then x else f j
theorem ft_up_s {f : Nat → Int} {k : Nat} {x : Int} : ft_up f k x k = x := if_pos rfl
theorem ft_up_n {f : Nat → Int} {k j : Nat} {x : Int} (h : j ≠ k) : ft_up f k x j = f j := if_neg h
def ft_un (f : Nat → Nat) (k : Nat) (x : Nat) : Nat → Nat := fun j => if j = k then x else f j
theorem ft_un_s {f : Nat → Nat} {k : Nat} {x : Nat} : ft_un f k x k = x := if_pos rfl
theorem ft_un_n {f : Nat → Nat} {k j : Nat} {x : Nat} (h : j ≠ k) : ft_un f k x j = f j := if_neg h
/-- an array holds these numbers at 0 .. n - 1 -/
def ft_az (n : Nat) (a : Nat → Int32) (f : Nat → Int) : Prop := ∀ k, k < n → a k = ft_Z (f k)
def ft_an (n : Nat) (a : Nat → Int32) (f : Nat → Nat) : Prop := ∀ k, k < n → a k = nI (f k)
theorem ft_az_u {n : Nat} {a : Nat → Int32} {f : Nat → Int} (h : ft_az n a f) {k : Nat} {x : Int} {y : Int32} (e : y = ft_Z x) : ft_az n (upd a k y) (ft_up f k x) := by
  intro j hj
  by_cases z : j = k
  · rw [z, pk_us, ft_up_s, e]
  · rw [pk_un z, ft_up_n z]; exact h j hj
theorem ft_an_u {n : Nat} {a : Nat → Int32} {f : Nat → Nat} (h : ft_an n a f) {k : Nat} {x : Nat} {y : Int32} (e : y = nI x) : ft_an n (upd a k y) (ft_un f k x) := by
  intro j hj
  by_cases z : j = k
  · rw [z, pk_us, ft_un_s, e]
  · rw [pk_un z, ft_un_n z]; exact h j hj
end
section
/-! the printed twins are the same -/
theorem ft_tw_advance_121 : @wX_advance_2_121 = @wX_advance_121 := by
  delta wX_advance_2_121 wX_advance_121
  rfl
theorem ft_tw_advance_89 : @wX_advance_2_89 = @wX_advance_89 := by
  delta wX_advance_2_89 wX_advance_89
  rfl
theorem ft_tw_advance_16 : @wX_advance_2_16 = @wX_advance_16 := by
  delta wX_advance_2_16 wX_advance_16
  delta wX_advance_2_16._f wX_advance_16._f
  rw [ft_tw_advance_121, ft_tw_advance_89]
  try rfl
theorem ft_tw_advance : @wpX_advance_2 = @wpX_advance := by
  delta wpX_advance_2 wpX_advance
  rw [ft_tw_advance_16]
  try rfl
theorem ft_tw_insert_89 : @wX_insert_2_89 = @wX_insert_89 := by
  delta wX_insert_2_89 wX_insert_89
  rfl
theorem ft_tw_insert_68 : @wX_insert_2_68 = @wX_insert_68 := by
  delta wX_insert_2_68 wX_insert_68
  rw [ft_tw_advance]
  try rfl
theorem ft_tw_insert_50 : @wX_insert_2_50 = @wX_insert_50 := by
  delta wX_insert_2_50 wX_insert_50
  delta wX_insert_2_50._f wX_insert_50._f
  rw [ft_tw_insert_89, ft_tw_insert_68]
  try rfl
theorem ft_tw_insert_10 : @wX_insert_2_10 = @wX_insert_10 := by
  delta wX_insert_2_10 wX_insert_10
  delta wX_insert_2_10._f wX_insert_10._f
  rw [ft_tw_insert_50]
  try rfl
theorem ft_tw_insert : @wpX_insert_2 = @wpX_insert := by
  delta wpX_insert_2 wpX_insert
  rw [ft_tw_insert_10]
  try rfl
theorem ft_tw_match_151 : @wX_match_2_151 = @wX_match_151 := by
  delta wX_match_2_151 wX_match_151
  rfl
theorem ft_tw_match_128 : @wX_match_2_128 = @wX_match_128 := by
  delta wX_match_2_128 wX_match_128
  delta wX_match_2_128._f wX_match_128._f
  rw [ft_tw_match_151, ft_tw_insert]
  try rfl
theorem ft_tw_match_98 : @wX_match_2_98 = @wX_match_98 := by
  delta wX_match_2_98 wX_match_98
  delta wX_match_2_98._f wX_match_98._f
  rw [ft_tw_match_128]
  try rfl
theorem ft_tw_match_75 : @wX_match_2_75 = @wX_match_75 := by
  delta wX_match_2_75 wX_match_75
  delta wX_match_2_75._f wX_match_75._f
  rw [ft_tw_match_98]
  try rfl
theorem ft_tw_match_33 : @wX_match_2_33 = @wX_match_33 := by
  delta wX_match_2_33 wX_match_33
  delta wX_match_2_33._f wX_match_33._f
  rw [ft_tw_match_75]
  try rfl
theorem ft_tw_match : @wpX_match_2 = @wpX_match := by
  delta wpX_match_2 wpX_match
  rw [ft_tw_match_33]
  try rfl
theorem ft_tw_totalOf : @wpX_totalOf_2 = @wpX_totalOf := by
  delta wpX_totalOf_2 wpX_totalOf
  rw [ft_tw_match]
  try rfl
end
section
/-! the walk of advance -/
/-- column c isn't reached -/
def ft_nr (z : Nat → Nat) (q c : Nat) : Prop := ∀ i, i < q → z i ≠ c
theorem ft_nr_d (z : Nat → Nat) (q c : Nat) : (∃ i, i < q ∧ z i = c) ∨ ft_nr z q c := by
  by_cases e : ∃ i, i < q ∧ z i = c
  · exact Or.inl e
  · exact Or.inr (fun i hi t => e ⟨i, hi, t⟩)
theorem ft_w121 {post : Int32 → St1 → Prop} {nx : Int32} {l : Int} {N q : Nat} {m0 p0 d0 l0 r0 k0 t0 : Int32} {a1 a2 a3 a4 a5 a6 a7 a8 a9 a10 : Nat → Int32} {u v s : Nat → Int} {ρ z : Nat → Nat}
    (hN : N ≤ 20) (h4 : ft_az 6 a4 u) (h5 : ft_az (N + 1) a5 v) (h6 : ft_an (N + 1) a6 ρ) (h8 : ft_az (N + 1) a8 s) (h9 : ∀ c, c ≤ N → (a9 c = 0 ↔ ft_nr z q c))
    (z1 : ∀ i, i < q → z i ≤ N ∧ ρ (z i) < 6) (z2 : ∀ i j, i < q → j < q → ρ (z i) = ρ (z j) → i = j)
    (H : ∀ a4' a5' a8' u' v' s', ft_az 6 a4' u' → ft_az (N + 1) a5' v' → ft_az (N + 1) a8' s' →
      (∀ i, i < q → u' (ρ (z i)) = u (ρ (z i)) + l) → (∀ r, (∀ i, i < q → ρ (z i) ≠ r) → u' r = u r) → (∀ i, i < q → v' (z i) = v (z i) - l) → (∀ c, c ≤ N → ft_nr z q c → v' c = v c) → (∀ c, c ≤ N → ft_nr z q c → s' c = s c - l) →
      post nx (m0, p0, d0, l0, r0, nI N, k0, t0, a1, a2, a3, a4', a5', a6, a7, a8', a9, a10)) :
    ∃ n, wX_advance_121 post (ft_Z l) nx m0 p0 d0 l0 r0 (nI N) k0 t0 n 0 a1 a2 a3 a4 a5 a6 a7 a8 a9 a10 := by
  refine pk_loop (fun n i (s : (Nat → Int32) × (Nat → Int32) × (Nat → Int32)) => wX_advance_121 post (ft_Z l) nx m0 p0 d0 l0 r0 (nI N) k0 t0 n (nI i) a1 a2 a3 s.1 s.2.1 a6 a7 s.2.2 a9 a10)
    (fun c b => ∃ u' v' s', ft_az 6 b.1 u' ∧ ft_az (N + 1) b.2.1 v' ∧ ft_az (N + 1) b.2.2 s' ∧ (∀ i, i < q → u' (ρ (z i)) = u (ρ (z i)) + (if z i < c then l else 0)) ∧ (∀ r, (∀ i, i < q → ρ (z i) ≠ r) → u' r = u r) ∧ (∀ i, i < q → v' (z i) = v (z i) - (if z i < c then l else 0)) ∧ (∀ c', c' ≤ N → ft_nr z q c' → v' c' = v c') ∧ (∀ c', c' ≤ N → ft_nr z q c' → s' c' = s c' - (if c' < c then l else 0)))
    (N + 1) 0 (a4, a5, a8) (by omega) ?_ ?_ ?_
  · refine ⟨u, v, s, h4, h5, h8, fun i hi => ?_, fun r _ => rfl, fun i hi => ?_, fun c _ _ => rfl, fun c _ _ => ?_⟩
    · rw [if_neg (by omega), Int.add_zero]
    · rw [if_neg (by omega), Int.sub_zero]
    · rw [if_neg (by omega), Int.sub_zero]
  · rintro n ⟨b4, b5, b8⟩ ⟨u', v', s', g4, g5, g8, e1, e2, e3, e4, e5⟩
    refine pk_lt N (N + 1) (fun _ => H b4 b5 b8 u' v' s' g4 g5 g8 (fun i hi => ?_) e2 (fun i hi => ?_) e4 (fun c c1 c2 => ?_)) (fun t => absurd t (by omega))
    · rw [e1 i hi, if_pos (by have := z1 i hi; omega)]
    · rw [e3 i hi, if_pos (by have := z1 i hi; omega)]
    · rw [e5 c c1 c2, if_pos (by omega)]
  · rintro n c ⟨b4, b5, b8⟩ hc ⟨u', v', s', g4, g5, g8, e1, e2, e3, e4, e5⟩ hw
    dsimp only at g4 g5 g8
    refine pk_lt N c (fun t => absurd t (by omega)) (fun _ => ⟨pk_in c 24 (by omega), ?_⟩)
    rw [nI_clamp (show c < 2 ^ 31 by omega)]
    rcases ft_nr_d z q c with ⟨i, hi, e⟩ | nr
    · have zi := z1 i hi
      have rc : ρ c < 6 := by rw [← e]; exact zi.2
      refine br_f (fun t => (h9 c (by omega)).mp t i hi e) ⟨pk_in c 24 (by omega), ?_⟩
      rw [h6 c (by omega), nI_clamp (show ρ c < 2 ^ 31 by omega)]
      refine ⟨pk_in (ρ c) 6 rc, pk_in (ρ c) 6 rc, nm_e ⟨pk_in c 24 (by omega), pk_in c 24 (by omega), nm_e (nm_r (nI_1 c) ?_)⟩⟩
      refine hw (upd b4 (ρ c) (b4 (ρ c) + ft_Z l), upd b5 c (b5 c - ft_Z l), b8) ⟨ft_up u' (ρ c) (u' (ρ c) + l), ft_up v' c (v' c - l), s', ft_az_u g4 (by rw [g4 _ rc, ft_Z_add]), ft_az_u g5 (by rw [g5 _ (by omega), ft_Z_sub]), g8, fun j hj => ?_, fun r hr => ?_, fun j hj => ?_, fun c' c1 c2 => ?_, fun c' c1 c2 => ?_⟩
      · by_cases t : j = i
        · rw [t, e, ft_up_s, ← e, e1 i hi, if_neg (by omega), if_pos (by omega)]
          omega
        · have ne : z j ≠ c := fun y => t (z2 j i hj hi (by rw [y, e]))
          rw [ft_up_n (fun y => t (z2 j i hj hi (by rw [y, e]))), e1 j hj]
          by_cases y : z j < c
          · rw [if_pos y, if_pos (by omega)]
          · rw [if_neg y, if_neg (by omega)]
      · rw [ft_up_n (fun y => hr i hi (by rw [e]; exact y.symm)), e2 r hr]
      · by_cases t : z j = c
        · rw [t, ft_up_s, ← t, e3 j hj, if_neg (by omega), if_pos (by omega)]
          omega
        · rw [ft_up_n t, e3 j hj]
          by_cases y : z j < c
          · rw [if_pos y, if_pos (by omega)]
          · rw [if_neg y, if_neg (by omega)]
      · rw [ft_up_n (fun y => c2 i hi (by rw [e]; exact y.symm)), e4 c' c1 c2]
      · have ne : c' ≠ c := fun y => c2 i hi (by rw [e]; exact y.symm)
        rw [e5 c' c1 c2]
        by_cases y : c' < c
        · rw [if_pos y, if_pos (by omega)]
        · rw [if_neg y, if_neg (by omega)]
    · refine br_t ((h9 c (by omega)).mpr nr) ⟨pk_in c 24 (by omega), pk_in c 24 (by omega), nm_e (nm_r (nI_1 c) ?_)⟩
      refine hw (b4, b5, upd b8 c (b8 c - ft_Z l)) ⟨u', v', ft_up s' c (s' c - l), g4, g5, ft_az_u g8 (by rw [g8 _ (by omega), ft_Z_sub]), fun j hj => ?_, e2, fun j hj => ?_, e4, fun c' c1 c2 => ?_⟩
      · have ne := nr j hj
        rw [e1 j hj]
        by_cases y : z j < c
        · rw [if_pos y, if_pos (by omega)]
        · rw [if_neg y, if_neg (by omega)]
      · have ne := nr j hj
        rw [e3 j hj]
        by_cases y : z j < c
        · rw [if_pos y, if_pos (by omega)]
        · rw [if_neg y, if_neg (by omega)]
      · by_cases t : c' = c
        · rw [t, ft_up_s, e5 c (by omega) nr, if_neg (by omega), if_pos (by omega)]
          omega
        · rw [ft_up_n t, e5 c' c1 c2]
          by_cases y : c' < c
          · rw [if_pos y, if_pos (by omega)]
          · rw [if_neg y, if_neg (by omega)]
/-- what a cost is asked for, whatever the scratch arrays hold -/
def ft_cost (m0 p0 d0 l0 r0 c0 k0 t0 : Int32) (a1 a2 a3 a10 : Nat → Int32) (R N : Nat) (C : Nat → Nat → Int) : Prop :=
  ∀ (Q : Int32 → Prop) (b4 b5 b6 b7 b8 b9 : Nat → Int32) (r c : Nat), 1 ≤ r → r ≤ R → 1 ≤ c → c ≤ N → Q (ft_Z (C r c)) → wpX_costOf Q (m0, p0, d0, l0, r0, c0, k0, t0, a1, a2, a3, b4, b5, b6, b7, b8, b9, a10) (nI r) (nI c)
/-- the slack s1 and the way w1 behind a look at the columns below c -/
def ft_lk (C : Nat → Nat → Int) (u v s : Nat → Int) (w : Nat → Nat) (row a : Nat) (s1 : Nat → Int) (w1 : Nat → Nat) (c : Nat) : Prop := (s1 c = s c ∧ w1 c = w c ∧ s c ≤ C row c - u row - v c) ∨ (s1 c = C row c - u row - v c ∧ w1 c = a ∧ s1 c ≤ s c)
theorem ft_w89 {post : Int32 → St1 → Prop} {J : Int32 → Int32 → Int32 → (Nat → Int32) → (Nat → Int32) → (Nat → Int32) → (Nat → Int32) → (Nat → Int32) → (Nat → Int32) → (Nat → Int32) → (Nat → Int32) → (Nat → Int32) → (Nat → Int32) → Prop} {x1 x2 : Int32} {l sc : Int} {nx c : Nat} {m0 p0 d0 l0 r0 c0 k0 t0 : Int32} {a1 a2 a3 a4 a5 a6 a7 a8 a9 a10 : Nat → Int32}
    (hc : c < 24) (e : a8 c = ft_Z sc) (hl : 0 ≤ l ∧ l ≤ 268435456) (hs : 0 ≤ sc ∧ sc ≤ 268435456)
    (H1 : l ≤ sc → J (ft_Z l) (nI nx) (nI (c + 1)) a1 a2 a3 a4 a5 a6 a7 a8 a9 a10) (H2 : sc < l → J (ft_Z sc) (nI c) (nI (c + 1)) a1 a2 a3 a4 a5 a6 a7 a8 a9 a10) :
    wX_advance_89 post J x1 x2 (ft_Z l) (nI nx) (nI c) m0 p0 d0 l0 r0 c0 k0 t0 a1 a2 a3 a4 a5 a6 a7 a8 a9 a10 := by
  unfold wX_advance_89
  rw [nI_clamp (show c < 2 ^ 31 by omega), e]
  exact ⟨pk_in c 24 hc, ft_le l sc rfl rfl (by omega) (by omega) (fun t => nm_r (nI_1 c) (H1 t)) (fun t => ⟨pk_in c 24 hc, nm_e (nm_r (nI_1 c) (H2 t))⟩)⟩
theorem ft_w16 {post : Int32 → St1 → Prop} {N R q row a : Nat} {C : Nat → Nat → Int} {m0 p0 d0 l0 r0 k0 t0 : Int32} {a1 a2 a3 a4 a5 a6 a7 a8 a9 a10 : Nat → Int32} {u v s : Nat → Int} {w z : Nat → Nat}
    (hN : N ≤ 20) (hc : ft_cost m0 p0 d0 l0 r0 (nI N) k0 t0 a1 a2 a3 a10 R N C) (r1 : 1 ≤ row) (r2 : row ≤ R) (hR : R ≤ 5) (ha : a ≤ N)
    (h4 : ft_az 6 a4 u) (h5 : ft_az (N + 1) a5 v) (h7 : ft_an (N + 1) a7 w) (h8 : ft_az (N + 1) a8 s) (h9 : ∀ c, c ≤ N → (a9 c = 0 ↔ ft_nr z q c))
    (hs : ∀ c, 1 ≤ c → c ≤ N → ft_nr z q c → 0 ≤ s c ∧ s c ≤ 268435456) (hr : ∀ c, 1 ≤ c → c ≤ N → 0 ≤ C row c - u row - v c ∧ C row c - u row - v c ≤ 300000) (hf : ∃ f, 1 ≤ f ∧ f ≤ N ∧ ft_nr z q f)
    (H : ∀ (l : Int) (nx : Nat) (a7' a8' : Nat → Int32) (s1 : Nat → Int) (w1 : Nat → Nat), ft_an (N + 1) a7' w1 → ft_az (N + 1) a8' s1 → (∀ c, c ≤ N → ¬ ft_nr z q c → w1 c = w c) →
      (∀ c, 1 ≤ c → c ≤ N → ft_nr z q c → ft_lk C u v s w row a s1 w1 c) → (∀ c, 1 ≤ c → c ≤ N → ft_nr z q c → l ≤ s1 c) → 1 ≤ nx → nx ≤ N → ft_nr z q nx → s1 nx = l →
      ∃ n, wX_advance_121 post (ft_Z l) (nI nx) m0 p0 d0 l0 r0 (nI N) k0 t0 n 0 a1 a2 a3 a4 a5 a6 a7' a8' a9 a10) :
    ∃ n, wX_advance_16 post (nI a) (nI row) m0 p0 d0 l0 r0 (nI N) k0 t0 n 268435456 0 1 a1 a2 a3 a4 a5 a6 a7 a8 a9 a10 := by
  refine pk_loop (fun n i (b : Int × Nat × (Nat → Int32) × (Nat → Int32)) => wX_advance_16 post (nI a) (nI row) m0 p0 d0 l0 r0 (nI N) k0 t0 n (ft_Z b.1) (nI b.2.1) (nI i) a1 a2 a3 a4 a5 a6 b.2.2.1 b.2.2.2 a9 a10)
    (fun i b => 1 ≤ i ∧ ∃ s1 w1, ft_an (N + 1) b.2.2.1 w1 ∧ ft_az (N + 1) b.2.2.2 s1 ∧ (∀ c, c ≤ N → ¬ ft_nr z q c → w1 c = w c) ∧
      (∀ c, 1 ≤ c → c < i → ft_nr z q c → ft_lk C u v s w row a s1 w1 c) ∧ (∀ c, i ≤ c → c ≤ N → s1 c = s c ∧ w1 c = w c) ∧ (∀ c, 1 ≤ c → c < i → ft_nr z q c → b.1 ≤ s1 c) ∧
      ((b.2.1 = 0 ∧ b.1 = 268435456) ∨ (1 ≤ b.2.1 ∧ b.2.1 < i ∧ ft_nr z q b.2.1 ∧ s1 b.2.1 = b.1)) ∧ 0 ≤ b.1 ∧ b.1 ≤ 268435456)
    (N + 1) 1 (268435456, 0, a7, a8) (by omega) ?_ ?_ ?_
  · exact ⟨Nat.le_refl 1, s, w, h7, h8, fun _ _ _ => rfl, fun c c1 c2 => absurd c2 (by omega), fun c _ _ => ⟨rfl, rfl⟩, fun c c1 c2 => absurd c2 (by omega), Or.inl ⟨rfl, rfl⟩, by dsimp only; omega, by dsimp only; omega⟩
  · rintro n ⟨l, nx, b7, b8⟩ ⟨_, s1, w1, g7, g8, e1, e2, e3, e4, e5, e6, e7⟩
    dsimp only at g7 g8 e4 e5 e6 e7
    refine pk_lt N (N + 1) (fun _ => ?_) (fun t => absurd t (by omega))
    obtain ⟨f, f1, f2, f3⟩ := hf
    have lf := e4 f f1 (by omega) f3
    have kf := e2 f f1 (by omega) f3
    have rf := hr f f1 f2
    have nz : 1 ≤ nx ∧ nx < N + 1 ∧ ft_nr z q nx ∧ s1 nx = l := by
      rcases e5 with ⟨_, t⟩ | t
      · unfold ft_lk at kf
        omega
      · exact t
    exact H l nx b7 b8 s1 w1 g7 g8 e1 (fun c c1 c2 => e2 c c1 (by omega)) (fun c c1 c2 => e4 c c1 (by omega)) nz.1 (by omega) nz.2.2.1 nz.2.2.2
  · rintro n c ⟨l, nx, b7, b8⟩ hcN ⟨c1, s1, w1, g7, g8, e1, e2, e3, e4, e5, e6, e7⟩ hw
    dsimp only at g7 g8 e4 e5 e6 e7
    refine pk_lt N c (fun t => absurd t (by omega)) (fun _ => ⟨pk_in c 24 (by omega), ?_⟩)
    rw [nI_clamp (show c < 2 ^ 31 by omega)]
    rcases ft_nr_d z q c with ⟨i, hi, e⟩ | nr
    · have nn : ¬ ft_nr z q c := fun t => t i hi e
      have ne : ∀ c', ft_nr z q c' → c' ≠ c := fun c' t y => nn (y ▸ t)
      refine br_f (fun t => nn ((h9 c (by omega)).mp t)) (nm_r (nI_1 c) (hw (l, nx, b7, b8) ⟨by omega, s1, w1, g7, g8, e1, fun c' y1 y2 y3 => e2 c' y1 (by have := ne c' y3; omega) y3, fun c' y1 y2 => e3 c' (by omega) y2, fun c' y1 y2 y3 => e4 c' y1 (by have := ne c' y3; omega) y3, ?_, e6, e7⟩))
      rcases e5 with t | ⟨t1, t2, t3⟩
      · exact Or.inl t
      · exact Or.inr ⟨t1, Nat.lt_succ_of_lt t2, t3⟩
    · have go : ∀ (b7' b8' : Nat → Int32) (s1' : Nat → Int) (w1' : Nat → Nat), ft_an (N + 1) b7' w1' → ft_az (N + 1) b8' s1' → (∀ c', c' ≠ c → s1' c' = s1 c' ∧ w1' c' = w1 c') → ft_lk C u v s w row a s1' w1' c → 0 ≤ s1' c ∧ s1' c ≤ 268435456 →
          wX_advance_89 post (wX_advance_16 post (nI a) (nI row) m0 p0 d0 l0 r0 (nI N) k0 t0 n) (nI a) (nI row) (ft_Z l) (nI nx) (nI c) m0 p0 d0 l0 r0 (nI N) k0 t0 a1 a2 a3 a4 a5 a6 b7' b8' a9 a10 := by
        intro b7' b8' s1' w1' k7 k8 kn kl kb
        have com : (∀ c', c' ≤ N → ¬ ft_nr z q c' → w1' c' = w c') ∧ (∀ c', 1 ≤ c' → c' < c + 1 → ft_nr z q c' → ft_lk C u v s w row a s1' w1' c') ∧ (∀ c', c + 1 ≤ c' → c' ≤ N → s1' c' = s c' ∧ w1' c' = w c') := by
          refine ⟨fun c' y1 y2 => ?_, fun c' y1 y2 y3 => ?_, fun c' y1 y2 => ?_⟩
          · rw [(kn c' (fun y => y2 (y ▸ nr))).2]; exact e1 c' y1 y2
          · by_cases y : c' = c
            · rw [y]; exact kl
            · unfold ft_lk
              rw [(kn c' y).1, (kn c' y).2]
              exact e2 c' y1 (by omega) y3
          · rw [(kn c' (by omega)).1, (kn c' (by omega)).2]
            exact e3 c' (by omega) y2
        refine ft_w89 (by omega) (k8 c (by omega)) ⟨e6, e7⟩ kb (fun t => ?_) (fun t => ?_)
        · refine hw (l, nx, b7', b8') ⟨by omega, s1', w1', k7, k8, com.1, com.2.1, com.2.2, fun c' y1 y2 y3 => ?_, ?_, e6, e7⟩
          · by_cases y : c' = c
            · rw [y]; exact t
            · rw [(kn c' y).1]; exact e4 c' y1 (by omega) y3
          · rcases e5 with y | ⟨y1, y2, y3, y4⟩
            · exact Or.inl y
            · refine Or.inr ⟨y1, Nat.lt_succ_of_lt y2, y3, ?_⟩
              show s1' nx = l
              rw [(kn nx (by omega)).1]
              exact y4
        · refine hw (s1' c, c, b7', b8') ⟨by omega, s1', w1', k7, k8, com.1, com.2.1, com.2.2, fun c' y1 y2 y3 => ?_, Or.inr ⟨c1, Nat.lt_succ_self c, nr, rfl⟩, kb.1, kb.2⟩
          show s1' c ≤ s1' c'
          by_cases y : c' = c
          · rw [y]; exact Int.le_refl _
          · rw [(kn c' y).1]
            have := e4 c' y1 (by omega) y3
            omega
      have hs0 := hs c c1 (by omega) nr
      have hr0 := hr c c1 (by omega)
      have e3c := e3 c (Nat.le_refl c) (by omega)
      refine br_t ((h9 c (by omega)).mpr nr) (hc _ _ _ _ _ _ _ row c r1 r2 c1 (by omega) ⟨pk_in row 6 (by omega), pk_in c 24 (by omega), ?_⟩)
      rw [nI_clamp (show row < 2 ^ 31 by omega), h4 row (by omega), h5 c (by omega), ft_Z_sub, ft_Z_sub]
      refine nm_e ⟨pk_in c 24 (by omega), ft_le (s c) (C row c - u row - v c) (show b8 c = ft_Z (s c) by rw [g8 c (by omega), e3c.1]) rfl (by omega) (by omega) (fun t => ?_) (fun t => ⟨pk_in c 24 (by omega), nm_e ⟨pk_in c 24 (by omega), nm_e ?_⟩⟩)⟩
      · exact go b7 b8 s1 w1 g7 g8 (fun c' _ => ⟨rfl, rfl⟩) (Or.inl ⟨e3c.1, e3c.2, t⟩) (by rw [e3c.1]; exact hs0)
      · exact go _ _ (ft_up s1 c (C row c - u row - v c)) (ft_un w1 c a) (ft_an_u g7 (ft_by a (by omega))) (ft_az_u g8 rfl) (fun c' y => ⟨ft_up_n y, ft_un_n y⟩) (Or.inr ⟨ft_up_s, ft_un_s, by rw [ft_up_s]; omega⟩) (by rw [ft_up_s]; omega)
theorem ft_T_row {N R k : Nat} {C : Nat → Nat → Int} {u v : Nat → Int} {ρ w z : Nat → Nat} {q : Nat} (hk : k + 1 ≤ R) (T : ft_T N R k C u v ρ w z q) {i : Nat} (hi : i < q) : 1 ≤ ρ (z i) ∧ ρ (z i) ≤ R ∧ z i ≤ N := by
  obtain ⟨H, h0, hq, z0, z1, z2, z3⟩ := T
  by_cases e : i = 0
  · rw [e, z0 (by omega), h0]; omega
  · have t := z1 i (by omega) hi
    have := H.1 _ t.1 t.2.1
    omega
theorem ft_T_inj {N R k : Nat} {C : Nat → Nat → Int} {u v : Nat → Int} {ρ w z : Nat → Nat} {q : Nat} (T : ft_T N R k C u v ρ w z q) {i j : Nat} (hi : i < q) (hj : j < q) (e : ρ (z i) = ρ (z j)) : i = j := by
  obtain ⟨H, h0, hq, z0, z1, z2, z3⟩ := T
  by_cases ei : i = 0
  · by_cases ej : j = 0
    · omega
    · have t := z1 j (by omega) hj
      have t2 := H.1 _ t.1 t.2.1
      rw [ei, z0 (by omega), h0] at e
      omega
  · have t := z1 i (by omega) hi
    by_cases ej : j = 0
    · have t2 := H.1 _ t.1 t.2.1
      rw [ej, z0 (by omega), h0] at e
      omega
    · have t' := z1 j (by omega) hj
      exact z2 i j hi hj (H.2.1 _ _ t.1 t.2.1 t'.1 t'.2.1 t.2.2 e)
theorem ft_advance {post : Int32 → St1 → Prop} {N R k q a : Nat} {C : Nat → Nat → Int} {m0 p0 d0 l0 r0 k0 t0 : Int32} {a1 a2 a3 a4 a5 a6 a7 a8 a9 a10 : Nat → Int32} {u v s : Nat → Int} {ρ w z : Nat → Nat}
    (hN5 : 5 ≤ N) (hN : N ≤ 20) (hkR : k + 1 ≤ R) (hR : R ≤ 5) (hC : ∀ r c, 1 ≤ r → r ≤ R → 1 ≤ c → c ≤ N → 0 ≤ C r c ∧ C r c ≤ 100000) (hc : ft_cost m0 p0 d0 l0 r0 (nI N) k0 t0 a1 a2 a3 a10 R N C)
    (h4 : ft_az 6 a4 u) (h5 : ft_az (N + 1) a5 v) (h6 : ft_an (N + 1) a6 ρ) (h7 : ft_an (N + 1) a7 w) (h8 : ft_az (N + 1) a8 s) (h9 : ∀ c, c ≤ N → (a9 c = 0 ↔ ft_nr (ft_zz z q a) (q + 1) c))
    (T : ft_T N R k C u v ρ w z q) (L : ft_L N C u v ρ s w z q) (A : ft_at N s z q a) (hr : q = 0 ∨ ρ a ≠ 0)
    (H : ∀ (a4' a5' a7' a8' : Nat → Int32) (u' v' s' : Nat → Int) (w' : Nat → Nat) (a' : Nat), ft_az 6 a4' u' → ft_az (N + 1) a5' v' → ft_an (N + 1) a7' w' → ft_az (N + 1) a8' s' →
      ft_T N R k C u' v' ρ w' (ft_zz z q a) (q + 1) → ft_L N C u' v' ρ s' w' (ft_zz z q a) (q + 1) → ft_at N s' (ft_zz z q a) (q + 1) a' →
      post (nI a') (m0, p0, d0, l0, r0, nI N, k0, t0, a1, a2, a3, a4', a5', a6, a7', a8', a9, a10)) :
    wpX_advance post (m0, p0, d0, l0, r0, nI N, k0, t0, a1, a2, a3, a4, a5, a6, a7, a8, a9, a10) (nI a) := by
  obtain ⟨T', hqk⟩ := ft_T_add T L A hr
  have bd := ft_bnd T.1 (show k < N by omega) (by omega) hC
  have rows := fun i hi => ft_T_row (i := i) hkR T' hi
  have rinj := fun i j hi hj e => ft_T_inj (i := i) (j := j) T' hi hj e
  have yq : ft_zz z q a q = a := ft_zz_q
  have ra := rows q (by omega)
  rw [yq] at ra
  have hbig : ∀ r c, 1 ≤ r → r ≤ R → 1 ≤ c → c ≤ N → 0 ≤ C r c - u r - v c ∧ C r c - u r - v c ≤ 300000 := by
    intro r c r1 r2 c1 c2
    have f := T.1.2.2.2.1 r c r1 r2 c1 c2
    have x1 := bd.1 r r1 r2
    have x2 := bd.2 c c1 c2
    have x3 := hC r c r1 r2 c1 c2
    omega
  have sub : ∀ c, ft_nr (ft_zz z q a) (q + 1) c → ft_nr z q c := by
    intro c h i hi
    have := h i (by omega)
    rw [ft_zz_n (by omega)] at this
    exact this
  obtain ⟨f, f1, f2, f3⟩ := ft_free T.1 (show k < N by omega)
  have fn : ft_nr (ft_zz z q a) (q + 1) f := by
    intro i hi e
    have t := (rows i hi).1
    by_cases i0 : i = 0
    · have := T'.2.2.2.1 (by omega)
      rw [i0] at e
      omega
    · have := (T'.2.2.2.2.1 i (by omega) hi).2.2
      rw [e] at this
      exact this f3
  refine ⟨pk_in a 24 (by omega), ?_⟩
  rw [nI_clamp (show a < 2 ^ 31 by omega), h6 a (by omega)]
  refine nm_e (ft_w16 (z := ft_zz z q a) (q := q + 1) hN hc ra.1 ra.2.1 hR ra.2.2 h4 h5 h7 h8 h9 (fun c c1 c2 cn => ?_) (fun c c1 c2 => hbig (ρ a) c ra.1 ra.2.1 c1 c2) ⟨f, f1, f2, fn⟩ ?_)
  · obtain ⟨_, t⟩ := L c c1 c2 (sub c cn)
    rcases t with ⟨i, hi, _, e⟩ | ⟨_, e⟩
    · have ri := rows i (by omega)
      rw [ft_zz_n (by omega)] at ri
      have := hbig (ρ (z i)) c ri.1 ri.2.1 c1 c2
      omega
    · omega
  · intro l nx a7' a8' s1 w1 g7 g8 e1 e2 e3 n1 n2 n3 n4
    refine ft_w121 (z := ft_zz z q a) (q := q + 1) hN h4 h5 h6 g8 h9 (fun i hi => ⟨(rows i hi).2.2, by have := (rows i hi).2.1; omega⟩) rinj ?_
    intro a4' a5' a8'' u' v' s' k4 k5 k8 x1 x2 x3 x4 x5
    obtain ⟨y1, y2, y3⟩ := ft_adv hkR T L A hr (fun r c r1 r2 c1 c2 => by have := hbig r c r1 r2 c1 c2; omega) e2 (fun i hi => e1 _ (rows i hi).2.2 (fun t => t i hi rfl)) ⟨n1, n2, n3, n4⟩ e3 x1 x2 x3 x4 x5
    exact H a4' a5' a7' a8'' u' v' s' w1 nx k4 k5 g7 k8 y1 y2 y3
end
section
/-! the walk of insert -/
theorem ft_i89 {post : St1 → Prop} {N R k q : Nat} {C : Nat → Nat → Int} {m0 p0 d0 l0 r0 c0 k0 t0 : Int32} {a1 a2 a3 a4 a5 a7 a8 a9 a10 : Nat → Int32} {u v : Nat → Int} {ρ0 w z : Nat → Nat}
    (hN : N ≤ 20) (hkR : k + 1 ≤ R) (hR : R ≤ 5) (T : ft_T N R k C u v ρ0 w z q) (h7 : ft_an (N + 1) a7 w)
    (H : ∀ (a6' : Nat → Int32) (ρ' : Nat → Nat), ft_an (N + 1) a6' ρ' → ft_H N R (k + 1) C u v ρ' → post (m0, p0, d0, l0, r0, c0, k0, t0, a1, a2, a3, a4, a5, a6', a7, a8, a9, a10)) :
    ∀ (f i j a : Nat) (a6 : Nat → Int32) (ρ : Nat → Nat), i < f → i + j ≤ 5 → i ≤ q → ft_an (N + 1) a6 ρ → ft_B N R k C u v ρ0 w z ρ i a → wX_insert_89 post m0 p0 d0 l0 r0 c0 k0 t0 f (nI a) (nI j) a1 a2 a3 a4 a5 a6 a7 a8 a9 a10 := by
  intro f
  induction f with
  | zero => intro i j a a6 ρ h; omega
  | succ f ih =>
    intro i j a a6 ρ hi hj hq h6 B
    refine pk_lt 5 j (fun t => absurd t (by omega)) (fun _ => ?_)
    have aN : a ≤ N := B.1
    refine pk_eq a 0 (fun t => ?_) (fun t => ⟨pk_in a 24 (by omega), ?_⟩)
    · subst t
      exact H a6 ρ h6 (ft_B_x T.1 B)
    · obtain ⟨jj, j1, j2, j3⟩ := B.2.2.2.2.2.2.2.resolve_left t
      have wN : w a ≤ N := by rw [j2]; exact (ft_T_row hkR T (show jj < q by omega)).2.2
      have rw6 : ρ (w a) ≤ k + 1 := B.2.1 (w a) wN (by rw [j2]; exact (B.2.2.2.2.2.2.1 jj j1).2)
      rw [nI_clamp (show a < 2 ^ 31 by omega), h7 a (by omega)]
      refine nm_e ⟨pk_in (w a) 24 (by omega), pk_in a 24 (by omega), ?_⟩
      rw [nI_clamp (show w a < 2 ^ 31 by omega), h6 (w a) (by omega), ft_vb (show ρ (w a) < 128 by omega)]
      refine nm_e (nm_r (nI_1 j) ?_)
      obtain ⟨i', i1, B'⟩ := ft_B_s (ρ' := ft_un ρ a (ρ (w a))) T hq B t ft_un_s (fun c _ hc => ft_un_n hc)
      exact ih i' (j + 1) (w a) _ (ft_un ρ a (ρ (w a))) (by omega) (by omega) (by omega) (ft_an_u h6 rfl) B'
theorem ft_i50 {post : St1 → Prop} {N R k : Nat} {C : Nat → Nat → Int} {m0 p0 d0 l0 r0 k0 t0 : Int32} {a1 a2 a3 a6 a10 : Nat → Int32} {ρ : Nat → Nat}
    (hN5 : 5 ≤ N) (hN : N ≤ 20) (hkR : k + 1 ≤ R) (hR : R ≤ 5) (hC : ∀ r c, 1 ≤ r → r ≤ R → 1 ≤ c → c ≤ N → 0 ≤ C r c ∧ C r c ≤ 100000) (hc : ft_cost m0 p0 d0 l0 r0 (nI N) k0 t0 a1 a2 a3 a10 R N C) (h6 : ft_an (N + 1) a6 ρ)
    (H : ∀ (a4' a5' a6' a7' a8' a9' : Nat → Int32) (u' v' : Nat → Int) (ρ' : Nat → Nat), ft_az 6 a4' u' → ft_az (N + 1) a5' v' → ft_an (N + 1) a6' ρ' → ft_H N R (k + 1) C u' v' ρ' → post (m0, p0, d0, l0, r0, nI N, k0, t0, a1, a2, a3, a4', a5', a6', a7', a8', a9', a10)) :
    ∀ (f q a : Nat) (a4 a5 a7 a8 a9 : Nat → Int32) (u v s : Nat → Int) (w z : Nat → Nat), k + 1 - q < f → ft_az 6 a4 u → ft_az (N + 1) a5 v → ft_an (N + 1) a7 w → ft_az (N + 1) a8 s → (∀ c, c ≤ N → (a9 c = 0 ↔ ft_nr z q c)) →
      ft_T N R k C u v ρ w z q → ft_L N C u v ρ s w z q → ft_at N s z q a → wX_insert_50 post f (nI a) (nI q) m0 p0 d0 l0 r0 (nI N) k0 t0 a1 a2 a3 a4 a5 a6 a7 a8 a9 a10 := by
  intro f
  induction f with
  | zero => intro q a a4 a5 a7 a8 a9 u v s w z h; omega
  | succ f ih =>
    intro q a a4 a5 a7 a8 a9 u v s w z hf h4 h5 h7 h8 h9 T L A
    have hq := T.2.2.1
    have aN : a ≤ N := by
      rcases A with ⟨_, e⟩ | ⟨_, _, e, _⟩
      · omega
      · exact e
    have go : (q = 0 ∨ ρ a ≠ 0) → wX_insert_68 post (wX_insert_50 post f) (nI a) (nI q) m0 p0 d0 l0 r0 (nI N) k0 t0 a1 a2 a3 a4 a5 a6 a7 a8 a9 a10 := by
      intro hr
      have qk := (ft_T_add T L A hr).2
      refine ⟨pk_in a 24 (by omega), ?_⟩
      rw [nI_clamp (show a < 2 ^ 31 by omega)]
      refine nm_e (ft_advance hN5 hN hkR hR hC hc h4 h5 h6 h7 h8 (fun c hcN => ?_) T L A hr ?_)
      · by_cases e : c = a
        · rw [e, pk_us]
          exact ⟨fun t => absurd t (by decide), fun t => absurd ft_zz_q (t q (by omega))⟩
        · rw [pk_un e, h9 c hcN]
          refine ⟨fun t i hi => ?_, fun t i hi => ?_⟩
          · by_cases y : i = q
            · rw [y, ft_zz_q]; exact fun x => e x.symm
            · rw [ft_zz_n y]; exact t i (by omega)
          · have := t i (by omega)
            rw [ft_zz_n (by omega)] at this
            exact this
      · intro a4' a5' a7' a8' u' v' s' w' a' k4 k5 k7 k8 T' L' A'
        refine nm_r (nI_1 q) (ih (q + 1) a' a4' a5' a7' a8' _ u' v' s' w' (ft_zz z q a) (by omega) k4 k5 k7 k8 (fun c hcN => ?_) T' L' A')
        by_cases e : c = a
        · rw [e, pk_us]
          exact ⟨fun t => absurd t (by decide), fun t => absurd ft_zz_q (t q (by omega))⟩
        · rw [pk_un e, h9 c hcN]
          refine ⟨fun t i hi => ?_, fun t i hi => ?_⟩
          · by_cases y : i = q
            · rw [y, ft_zz_q]; exact fun x => e x.symm
            · rw [ft_zz_n y]; exact t i (by omega)
          · have := t i (by omega)
            rw [ft_zz_n (by omega)] at this
            exact this
    refine pk_lt 5 q (fun t => absurd t (by omega)) (fun _ => pk_eq q 0 (fun t => go (Or.inl t)) (fun t => ⟨pk_in a 24 (by omega), ?_⟩))
    have ra : ρ a < 2 ^ 31 := by
      rcases A with ⟨e, _⟩ | ⟨_, e1, e2, _⟩
      · omega
      · have := T.1.1 a e1 e2; omega
    rw [nI_clamp (show a < 2 ^ 31 by omega), h6 a (by omega)]
    refine pk_eq (ρ a) 0 (fun y => ⟨q + 1, ?_⟩) (fun y => go (Or.inr y))
    exact ft_i89 hN hkR hR T h7 (fun a6' ρ' k6 hh => H a4 a5 a6' a7 a8 a9 u v ρ' h4 h5 k6 hh) (q + 1) q 0 a a6 ρ (by omega) (by omega) (by omega) h6 (ft_B_0 T L A t y)
theorem ft_i10 {post : St1 → Prop} {N : Nat} {m0 p0 d0 l0 r0 k0 t0 : Int32} {a1 a2 a3 a4 a5 a6 a7 a8 a9 a10 : Nat → Int32} (hN : N ≤ 20)
    (H : ∀ (a7' a8' a9' : Nat → Int32), ft_an (N + 1) a7' (fun _ => 0) → ft_az (N + 1) a8' (fun _ => 268435456) → (∀ c, c ≤ N → a9' c = 0) → ∃ n, wX_insert_50 post n 0 0 m0 p0 d0 l0 r0 (nI N) k0 t0 a1 a2 a3 a4 a5 a6 a7' a8' a9' a10) :
    ∃ n, wX_insert_10 post m0 p0 d0 l0 r0 (nI N) k0 t0 n 0 a1 a2 a3 a4 a5 a6 a7 a8 a9 a10 := by
  refine pk_loop (fun n i (b : (Nat → Int32) × (Nat → Int32) × (Nat → Int32)) => wX_insert_10 post m0 p0 d0 l0 r0 (nI N) k0 t0 n (nI i) a1 a2 a3 a4 a5 a6 b.1 b.2.1 b.2.2 a10)
    (fun i b => ft_an i b.1 (fun _ => 0) ∧ ft_az i b.2.1 (fun _ => 268435456) ∧ (∀ c, c < i → b.2.2 c = 0))
    (N + 1) 0 (a7, a8, a9) (by omega) ⟨fun c hc => absurd hc (by omega), fun c hc => absurd hc (by omega), fun c hc => absurd hc (by omega)⟩ ?_ ?_
  · rintro n ⟨b7, b8, b9⟩ ⟨g7, g8, g9⟩
    exact pk_lt N (N + 1) (fun _ => H b7 b8 b9 g7 g8 (fun c hc => g9 c (by omega))) (fun t => absurd t (by omega))
  · rintro n i ⟨b7, b8, b9⟩ hi ⟨g7, g8, g9⟩ hw
    refine pk_lt N i (fun t => absurd t (by omega)) (fun _ => ⟨pk_in i 24 (by omega), ?_⟩)
    rw [nI_clamp (show i < 2 ^ 31 by omega)]
    refine nm_e ⟨pk_in i 24 (by omega), nm_e ⟨pk_in i 24 (by omega), nm_e (nm_r (nI_1 i) (hw (upd b7 i 0, upd b8 i 268435456, upd b9 i 0) ⟨fun c hc => ?_, fun c hc => ?_, fun c hc => ?_⟩))⟩⟩
    · show upd b7 i 0 c = nI 0
      by_cases e : c = i
      · rw [e, pk_us]; rfl
      · rw [pk_un e]; exact g7 c (by omega)
    · show upd b8 i 268435456 c = ft_Z 268435456
      by_cases e : c = i
      · rw [e, pk_us]; rfl
      · rw [pk_un e]; exact g8 c (by omega)
    · show upd b9 i 0 c = 0
      by_cases e : c = i
      · rw [e, pk_us]
      · rw [pk_un e]; exact g9 c (by omega)
theorem ft_H_cg {N R k : Nat} {C : Nat → Nat → Int} {u v : Nat → Int} {ρ ρ' : Nat → Nat} (e : ∀ c, 1 ≤ c → ρ' c = ρ c) (H : ft_H N R k C u v ρ) : ft_H N R k C u v ρ' := by
  obtain ⟨h1, h2, h3, h4, h5, h6, h7, h8⟩ := H
  refine ⟨fun c c1 c2 => by rw [e c c1]; exact h1 c c1 c2, fun c d c1 c2 d1 d2 c0 t => ?_, fun r r1 r2 => ?_, h4, fun c c1 c2 c0 => ?_, h6, fun c c1 c2 c0 => ?_, h8⟩
  · rw [e c c1, e d d1] at t
    rw [e c c1] at c0
    exact h2 c d c1 c2 d1 d2 c0 t
  · obtain ⟨c, c1, c2, c3⟩ := h3 r r1 r2
    exact ⟨c, c1, c2, by rw [e c c1]; exact c3⟩
  · rw [e c c1] at c0 ⊢
    exact h5 c c1 c2 c0
  · rw [e c c1] at c0
    exact h7 c c1 c2 c0
theorem ft_insert {post : St1 → Prop} {N R k : Nat} {C : Nat → Nat → Int} {m0 p0 d0 l0 r0 k0 t0 : Int32} {a1 a2 a3 a4 a5 a6 a7 a8 a9 a10 : Nat → Int32} {u v : Nat → Int} {ρ : Nat → Nat}
    (hN5 : 5 ≤ N) (hN : N ≤ 20) (hkR : k + 1 ≤ R) (hR : R ≤ 5) (hC : ∀ r c, 1 ≤ r → r ≤ R → 1 ≤ c → c ≤ N → 0 ≤ C r c ∧ C r c ≤ 100000) (hc : ft_cost m0 p0 d0 l0 r0 (nI N) k0 t0 a1 a2 a3 a10 R N C)
    (h4 : ft_az 6 a4 u) (h5 : ft_az (N + 1) a5 v) (h6 : ft_an (N + 1) a6 ρ) (hh : ft_H N R k C u v ρ)
    (H : ∀ (a4' a5' a6' a7' a8' a9' : Nat → Int32) (u' v' : Nat → Int) (ρ' : Nat → Nat), ft_az 6 a4' u' → ft_az (N + 1) a5' v' → ft_an (N + 1) a6' ρ' → ft_H N R (k + 1) C u' v' ρ' → post (m0, p0, d0, l0, r0, nI N, k0, t0, a1, a2, a3, a4', a5', a6', a7', a8', a9', a10)) :
    wpX_insert post (m0, p0, d0, l0, r0, nI N, k0, t0, a1, a2, a3, a4, a5, a6, a7, a8, a9, a10) (nI (k + 1)) := by
  refine nm_e (ft_i10 hN (fun a7' a8' a9' g7 g8 g9 => ⟨k + 3, ?_⟩))
  refine ft_i50 (ρ := ft_un ρ 0 (k + 1)) hN5 hN hkR hR hC hc (ft_an_u h6 (ft_by (k + 1) (by omega))) H (k + 3) 0 0 a4 a5 a7' a8' a9' u v (fun _ => 268435456) (fun _ => 0) (fun _ => 0) (by omega) h4 h5 g7 g8 (fun c hcN => ⟨fun _ i hi => absurd hi (by omega), fun _ => g9 c hcN⟩) ?_ ?_ (Or.inl ⟨rfl, rfl⟩)
  · exact ⟨ft_H_cg (fun c c1 => ft_un_n (by omega)) hh, ft_un_s, by omega, fun t => absurd t (by omega), fun i _ t => absurd t (by omega), fun i j t => absurd t (by omega), fun i _ t => absurd t (by omega)⟩
  · exact fun c c1 c2 _ => ⟨fun i hi => absurd hi (by omega), Or.inr ⟨rfl, rfl⟩⟩
end
section
/-! the walk of costOf and match -/
/-- the question at hand: times X, open machines o, the machine mA of a column, what a liked place costs less bo -/
def ft_qn (m0 d0 l0 : Int32) (a1 a2 : Nat → Int32) (N : Nat) (X : Nat → Nat) (o : Nat → Nat → Bool) (mA bo : Nat → Nat) : Prop :=
  5 ≤ N ∧ N ≤ 20 ∧ ((d0 < 0 → m0 * 5 = nI N) ∧ (¬ d0 < 0 → (m0 + 1) * 5 = nI N)) ∧
  (∀ c, 1 ≤ c → c ≤ N → mA c < 3) ∧
  (∀ c, 1 ≤ c → c ≤ N → (m0 ≤ nI ((c - 1) / 5) → d0 = nI (mA c)) ∧ (¬ m0 ≤ nI ((c - 1) / 5) → (c - 1) / 5 = mA c)) ∧
  (ft_an 15 a1 X ∧ ∀ k, k < 15 → X k ≤ 15) ∧
  (∀ j m, j < 5 → m < 3 → (((a2 j >>> (nI m &&& 31)) &&& 1 = 0) ↔ ¬ o j m = true)) ∧
  (∀ m, m < 3 → (nI m = l0 → bo m = 1) ∧ (¬ nI m = l0 → bo m = 0))
theorem ft_div5 {c : Nat} (h : 1 ≤ c) (h2 : c ≤ 100) : (nI c - 1) / 5 = nI ((c - 1) / 5) := by
  obtain ⟨b, rfl⟩ : ∃ b, c = b + 1 := ⟨c - 1, by omega⟩
  rw [nI_pred]
  exact pk_div (d := 5) (by omega) (by omega) (by omega)
theorem ft_rem5 {c : Nat} (h : 1 ≤ c) (h2 : c ≤ 100) : ((nI c - 1) - (nI c - 1) / 5 * 5) + 1 = nI (ft_pl c) := by
  obtain ⟨b, rfl⟩ : ∃ b, c = b + 1 := ⟨c - 1, by omega⟩
  rw [nI_pred]
  have : nI b - nI b / 5 * 5 = nI (b % 5) := pk_rem (d := 5) (by omega) (by omega) (by omega)
  rw [this, nI_1]
  rfl
theorem ft_ix (j m : Nat) : nI j * 3 + nI m = nI (3 * j + m) := by
  have : nI j * 3 = nI (j * 3) := pk_mul j 3
  rw [this, nI_add, Nat.mul_comm]
theorem ft_machineAt {Q : Int32 → Prop} {m0 p0 d0 l0 r0 c0 k0 t0 : Int32} {a1 a2 a3 a4 a5 a6 a7 a8 a9 a10 : Nat → Int32} {N : Nat} {X : Nat → Nat} {o : Nat → Nat → Bool} {mA bo : Nat → Nat}
    (hq : ft_qn m0 d0 l0 a1 a2 N X o mA bo) {c : Nat} (c1 : 1 ≤ c) (c2 : c ≤ N) (H : Q (nI (mA c))) : wpX_machineAt Q (m0, p0, d0, l0, r0, c0, k0, t0, a1, a2, a3, a4, a5, a6, a7, a8, a9, a10) (nI c) := by
  obtain ⟨q1, q2, q3, q4, q5, q6, q7, q8⟩ := hq
  refine ⟨by decide, nm_r (ft_div5 c1 (by omega)) (br_c (fun h => ?_) (fun h => ?_))⟩
  · rw [(q5 c c1 c2).1 h]; exact H
  · rw [(q5 c c1 c2).2 h]; exact H
theorem ft_costOf {Q : Int32 → Prop} {m0 p0 d0 l0 r0 c0 k0 t0 : Int32} {a1 a2 a3 a4 a5 a6 a7 a8 a9 a10 : Nat → Int32} {N : Nat} {X : Nat → Nat} {o : Nat → Nat → Bool} {mA bo : Nat → Nat}
    (hq : ft_qn m0 d0 l0 a1 a2 N X o mA bo) {r c j : Nat} (hr : r < 6) (hj : j < 5) (e : a3 r = nI j) (c1 : 1 ≤ c) (c2 : c ≤ N) (H : Q (ft_Z (ft_K o mA bo X j c))) : wpX_costOf Q (m0, p0, d0, l0, r0, c0, k0, t0, a1, a2, a3, a4, a5, a6, a7, a8, a9, a10) (nI r) (nI c) := by
  refine ⟨pk_in r 6 hr, ?_⟩
  rw [nI_clamp (show r < 2 ^ 31 by omega), e]
  refine nm_e (ft_machineAt hq c1 c2 ?_)
  obtain ⟨q1, q2, q3, q4, q5, q6, q7, q8⟩ := hq
  have m3 := q4 c c1 c2
  refine pk_lt (mA c) 0 (fun t => absurd t (by omega)) (fun _ => ⟨pk_in j 5 hj, ?_⟩)
  rw [nI_clamp (show j < 2 ^ 31 by omega)]
  unfold ft_K at H
  refine br_c (fun h => ?_) (fun h => ?_)
  · rw [if_neg ((q7 j (mA c) hj m3).mp h)] at H
    exact H
  · have ho : o j (mA c) = true := by
      by_cases z : o j (mA c) = true
      · exact z
      · exact absurd ((q7 j (mA c) hj m3).mpr z) h
    rw [if_pos ho] at H
    refine ⟨by decide, nm_r (ft_rem5 c1 (by omega)) ?_⟩
    rw [ft_ix, nI_clamp (show 3 * j + mA c < 2 ^ 31 by omega), q6.1 (3 * j + mA c) (by omega)]
    have e8 : (8 * nI (ft_pl c)) * nI (X (3 * j + mA c)) = ft_Z (8 * (ft_pl c : Int) * (X (3 * j + mA c) : Int)) := by
      rw [ft_Z_n, ft_Z_n, ← ft_Z_mul, ← ft_Z_mul]
      rfl
    refine ⟨pk_in (3 * j + mA c) 15 (by omega), nm_r e8 (br_c (fun h => ?_) (fun h => ?_))⟩
    · rw [(q8 (mA c) m3).1 h] at H
      have : ft_Z (8 * (ft_pl c : Int) * (X (3 * j + mA c) : Int)) - 1 = ft_Z (8 * (ft_pl c : Int) * (X (3 * j + mA c) : Int) - ((1 : Nat) : Int)) := by
        rw [← ft_Z_sub]
        rfl
      rw [this]
      exact H
    · rw [(q8 (mA c) m3).2 h] at H
      have : ft_Z (8 * (ft_pl c : Int) * (X (3 * j + mA c) : Int)) = ft_Z (8 * (ft_pl c : Int) * (X (3 * j + mA c) : Int) - ((0 : Nat) : Int)) := by
        rw [show ((0 : Nat) : Int) = 0 from rfl, Int.sub_zero]
      rw [this]
      exact H
theorem ft_m151 {post : Int32 → St1 → Prop} {N R : Nat} {C : Nat → Nat → Int} {m0 p0 d0 l0 r0 k0 t0 : Int32} {a1 a2 a3 a4 a5 a6 a7 a8 a9 a10 : Nat → Int32} {ρ : Nat → Nat}
    (hN : N ≤ 20) (hR : R ≤ 5) (hc : ft_cost m0 p0 d0 l0 r0 (nI N) k0 t0 a1 a2 a3 a10 R N C) (h6 : ft_an (N + 1) a6 ρ) (hρ : ∀ c, 1 ≤ c → c ≤ N → ρ c ≤ R)
    (H : post (ft_Z (ft_S N C ρ)) (m0, p0, d0, l0, r0, nI N, k0, t0, a1, a2, a3, a4, a5, a6, a7, a8, a9, a10)) :
    ∃ n, wX_match_151 post m0 p0 d0 l0 r0 (nI N) k0 t0 a1 a2 a3 a4 a5 a6 a7 a8 a9 a10 n 0 1 := by
  refine pk_loop (fun n i (x : Int) => wX_match_151 post m0 p0 d0 l0 r0 (nI N) k0 t0 a1 a2 a3 a4 a5 a6 a7 a8 a9 a10 n (ft_Z x) (nI i))
    (fun i x => 1 ≤ i ∧ x = ft_sm (fun c => if c = 0 ∨ ρ c = 0 then 0 else C (ρ c) c) i) (N + 1) 1 0 (by omega) ⟨Nat.le_refl 1, rfl⟩ ?_ ?_
  · rintro n x ⟨_, e⟩
    refine pk_lt N (N + 1) (fun _ => ?_) (fun t => absurd t (by omega))
    rw [e]
    exact H
  · rintro n i x hi ⟨i1, e⟩ hw
    have ri := hρ i i1 (by omega)
    refine pk_lt N i (fun t => absurd t (by omega)) (fun _ => ⟨pk_in i 24 (by omega), ?_⟩)
    rw [nI_clamp (show i < 2 ^ 31 by omega), h6 i (by omega)]
    refine pk_le (ρ i) 0 (fun t => nm_r (nI_1 i) (hw x ⟨by omega, ?_⟩)) (fun t => ⟨pk_in i 24 (by omega), hc _ _ _ _ _ _ _ (ρ i) i (by omega) ri i1 (by omega) (nm_r (ft_Z_add _ _) (nm_r (nI_1 i) (hw _ ⟨by omega, ?_⟩)))⟩)
    · show x = ft_sm (fun c => if c = 0 ∨ ρ c = 0 then 0 else C (ρ c) c) i + (if i = 0 ∨ ρ i = 0 then 0 else C (ρ i) i)
      rw [if_pos (Or.inr (by omega)), ← e, Int.add_zero]
    · show x + C (ρ i) i = ft_sm (fun c => if c = 0 ∨ ρ c = 0 then 0 else C (ρ c) c) i + (if i = 0 ∨ ρ i = 0 then 0 else C (ρ i) i)
      rw [if_neg (by omega), ← e]
theorem ft_m128 {post : Int32 → St1 → Prop} {N R : Nat} {C : Nat → Nat → Int} {m0 p0 d0 l0 k0 t0 : Int32} {a1 a2 a3 a10 : Nat → Int32}
    (hN5 : 5 ≤ N) (hN : N ≤ 20) (hR : R ≤ 5) (hC : ∀ r c, 1 ≤ r → r ≤ R → 1 ≤ c → c ≤ N → 0 ≤ C r c ∧ C r c ≤ 100000) (hc : ft_cost m0 p0 d0 l0 (nI R) (nI N) k0 t0 a1 a2 a3 a10 R N C)
    (H : ∀ (a4' a5' a6' a7' a8' a9' : Nat → Int32) (u' v' : Nat → Int) (ρ' : Nat → Nat), ft_H N R R C u' v' ρ' → post (ft_Z (ft_S N C ρ')) (m0, p0, d0, l0, nI R, nI N, k0, t0, a1, a2, a3, a4', a5', a6', a7', a8', a9', a10)) :
    ∀ (f k : Nat) (a4 a5 a6 a7 a8 a9 : Nat → Int32) (u v : Nat → Int) (ρ : Nat → Nat), R - k < f → k ≤ R → ft_az 6 a4 u → ft_az (N + 1) a5 v → ft_an (N + 1) a6 ρ → ft_H N R k C u v ρ →
      wX_match_128 post f (nI (k + 1)) m0 p0 d0 l0 (nI R) (nI N) k0 t0 a1 a2 a3 a4 a5 a6 a7 a8 a9 a10 := by
  intro f
  induction f with
  | zero => intro k a4 a5 a6 a7 a8 a9 u v ρ h; omega
  | succ f ih =>
    intro k a4 a5 a6 a7 a8 a9 u v ρ hf hk h4 h5 h6 hh
    refine pk_lt R (k + 1) (fun t => ?_) (fun t => ?_)
    · have e : k = R := by omega
      subst e
      exact ft_m151 hN hR hc h6 hh.1 (H a4 a5 a6 a7 a8 a9 u v ρ hh)
    · exact ft_insert hN5 hN t hR hC hc h4 h5 h6 hh (fun a4' a5' a6' a7' a8' a9' u' v' ρ' k4 k5 k6 hh' => nm_r (nI_1 (k + 1)) (ih (k + 1) a4' a5' a6' a7' a8' a9' u' v' ρ' (by omega) t k4 k5 k6 hh'))
theorem ft_m98 {post : Int32 → St1 → Prop} {N : Nat} {m0 p0 d0 l0 r0 k0 t0 : Int32} {a1 a2 a3 a4 a5 a6 a7 a8 a9 a10 : Nat → Int32} (hN : N ≤ 20)
    (H : ∀ (a5' a6' : Nat → Int32), ft_az (N + 1) a5' (fun _ => 0) → ft_an (N + 1) a6' (fun _ => 0) → ∃ n, wX_match_128 post n 1 m0 p0 d0 l0 r0 (nI N) k0 t0 a1 a2 a3 a4 a5' a6' a7 a8 a9 a10) :
    ∃ n, wX_match_98 post m0 p0 d0 l0 r0 (nI N) k0 t0 n 0 a1 a2 a3 a4 a5 a6 a7 a8 a9 a10 := by
  refine pk_loop (fun n i (b : (Nat → Int32) × (Nat → Int32)) => wX_match_98 post m0 p0 d0 l0 r0 (nI N) k0 t0 n (nI i) a1 a2 a3 a4 b.1 b.2 a7 a8 a9 a10)
    (fun i b => ft_az i b.1 (fun _ => 0) ∧ ft_an i b.2 (fun _ => 0)) (N + 1) 0 (a5, a6) (by omega) ⟨fun c hc => absurd hc (by omega), fun c hc => absurd hc (by omega)⟩ ?_ ?_
  · rintro n ⟨b5, b6⟩ ⟨g5, g6⟩
    exact pk_lt N (N + 1) (fun _ => H b5 b6 g5 g6) (fun t => absurd t (by omega))
  · rintro n i ⟨b5, b6⟩ hi ⟨g5, g6⟩ hw
    refine pk_lt N i (fun t => absurd t (by omega)) (fun _ => ⟨pk_in i 24 (by omega), ?_⟩)
    rw [nI_clamp (show i < 2 ^ 31 by omega)]
    refine nm_e ⟨pk_in i 24 (by omega), nm_e (nm_r (nI_1 i) (hw (upd b5 i 0, upd b6 i 0) ⟨fun c hc => ?_, fun c hc => ?_⟩))⟩
    · show upd b5 i 0 c = ft_Z 0
      by_cases e : c = i
      · rw [e, pk_us]; rfl
      · rw [pk_un e]; exact g5 c (by omega)
    · show upd b6 i 0 c = nI 0
      by_cases e : c = i
      · rw [e, pk_us]; rfl
      · rw [pk_un e]; exact g6 c (by omega)
theorem ft_m75 {post : Int32 → St1 → Prop} {R : Nat} {m0 p0 d0 l0 c0 k0 t0 : Int32} {a1 a2 a3 a4 a5 a6 a7 a8 a9 a10 : Nat → Int32} (hR : R ≤ 5)
    (H : ∀ (a4' : Nat → Int32), (∀ r, r ≤ R → a4' r = 0) → ∃ n, wX_match_98 post m0 p0 d0 l0 (nI R) c0 k0 t0 n 0 a1 a2 a3 a4' a5 a6 a7 a8 a9 a10) :
    ∃ n, wX_match_75 post m0 p0 d0 l0 (nI R) c0 k0 t0 n 0 a1 a2 a3 a4 a5 a6 a7 a8 a9 a10 := by
  refine pk_loop (fun n i (b : Nat → Int32) => wX_match_75 post m0 p0 d0 l0 (nI R) c0 k0 t0 n (nI i) a1 a2 a3 b a5 a6 a7 a8 a9 a10)
    (fun i b => ∀ r, r < i → b r = 0) (R + 1) 0 a4 (by omega) (fun c hc => absurd hc (by omega)) ?_ ?_
  · intro n b g
    exact pk_lt R (R + 1) (fun _ => H b (fun r hr => g r (by omega))) (fun t => absurd t (by omega))
  · intro n i b hi g hw
    refine pk_lt R i (fun t => absurd t (by omega)) (fun _ => ⟨pk_in i 6 (by omega), ?_⟩)
    rw [nI_clamp (show i < 2 ^ 31 by omega)]
    refine nm_e (nm_r (nI_1 i) (hw (upd b i 0) (fun r hr => ?_)))
    by_cases e : r = i
    · rw [e, pk_us]
    · rw [pk_un e]; exact g r (by omega)
/-- the set's bits -/
def ft_set (x : Int32) (p : Nat → Bool) : Prop := ∀ j, j < 5 → (((x >>> (nI j &&& 31)) &&& 1 = 0) ↔ ¬ p j = true)
theorem ft_m33 {post : Int32 → St1 → Prop} {x : Int32} {p : Nat → Bool} {m0 p0 d0 l0 c0 k0 t0 : Int32} {a1 a2 a3 a4 a5 a6 a7 a8 a9 a10 : Nat → Int32} (hx : ft_set x p)
    (H : ∀ (a3' : Nat → Int32), (∀ i, i < 5 → p i = true → a3' (ft_cnt p i + 1) = nI i) → ∃ n, wX_match_75 post m0 p0 d0 l0 (nI (ft_cnt p 5)) c0 k0 t0 n 0 a1 a2 a3' a4 a5 a6 a7 a8 a9 a10) :
    ∃ n, wX_match_33 post x m0 p0 d0 l0 c0 k0 t0 n 0 0 a1 a2 a3 a4 a5 a6 a7 a8 a9 a10 := by
  refine pk_loop (fun n j (b : Nat → Int32) => wX_match_33 post x m0 p0 d0 l0 c0 k0 t0 n (nI j) (nI (ft_cnt p j)) a1 a2 b a4 a5 a6 a7 a8 a9 a10)
    (fun j b => ∀ i, i < j → p i = true → b (ft_cnt p i + 1) = nI i) 5 0 a3 (by omega) (fun c hc => absurd hc (by omega)) ?_ ?_
  · intro n b g
    exact pk_le 5 5 (fun _ => H b g) (fun t => absurd t (by omega))
  · intro n j b hj g hw
    have cj := ft_cnt_le p j
    refine pk_le 5 j (fun t => absurd t (by omega)) (fun _ => br_c (fun h => ?_) (fun h => ?_))
    · have pj := (hx j hj).mp h
      have t := hw b (fun i hi pi => g i (by
        by_cases e : i = j
        · rw [e] at pi; exact absurd pi pj
        · omega) pi)
      rw [ft_cnt_f pj] at t
      exact nm_r (nI_1 j) t
    · have pj : p j = true := by
        by_cases e : p j = true
        · exact e
        · exact absurd ((hx j hj).mpr e) h
      have t := hw (upd b (ft_cnt p j + 1) (nI j)) (fun i hi pi => by
        by_cases e : i = j
        · rw [e, pk_us]
        · rw [pk_un (fun y => e (ft_cnt_inj p pi pj (by omega)))]
          exact g i (by omega) pi)
      rw [ft_cnt_t pj] at t
      refine nm_r (nI_1 _) ⟨pk_in (ft_cnt p j + 1) 6 (by omega), ?_⟩
      rw [nI_clamp (show ft_cnt p j + 1 < 2 ^ 31 by omega)]
      refine nm_r (by rw [ft_by j (by omega)]) (nm_r (nI_1 j) t)
theorem ft_opt_b {N : Nat} {p : Nat → Bool} {o : Nat → Nat → Bool} {mA bo X : Nat → Nat} {S : Int} (hb : ft_cb o mA bo X N) (h : ft_opt N p (ft_K o mA bo X) S) : 0 ≤ S ∧ S ≤ 500000 := by
  obtain ⟨⟨t, t1, t2⟩, _⟩ := h
  rw [t2]
  unfold ft_tot
  have := ft_sm_rng (f := fun j => if p j = true then ft_K o mA bo X j (t j) else 0) (a := 0) (b := 100000) (fun j hj => by
    show 0 ≤ (if p j = true then ft_K o mA bo X j (t j) else 0) ∧ (if p j = true then ft_K o mA bo X j (t j) else 0) ≤ 100000
    by_cases z : p j = true
    · rw [if_pos z]
      have := t1.1 j hj z
      exact ft_K_b hb hj this.1 this.2
    · rw [if_neg z]; omega)
  omega
theorem ft_match {post : Int32 → St1 → Prop} {x : Int32} {p : Nat → Bool} {m0 p0 d0 l0 r0 c0 k0 t0 : Int32} {a1 a2 a3 a4 a5 a6 a7 a8 a9 a10 : Nat → Int32} {N : Nat} {X : Nat → Nat} {o : Nat → Nat → Bool} {mA bo : Nat → Nat}
    (hx : ft_set x p) (hq : ft_qn m0 d0 l0 a1 a2 N X o mA bo) (hb : ft_cb o mA bo X N)
    (H : ∀ (S : Int) (r0' c0' : Int32) (a3' a4' a5' a6' a7' a8' a9' : Nat → Int32), ft_opt N p (ft_K o mA bo X) S → 0 ≤ S ∧ S ≤ 500000 → post (ft_Z S) (m0, p0, d0, l0, r0', c0', k0, t0, a1, a2, a3', a4', a5', a6', a7', a8', a9', a10)) :
    wpX_match post (m0, p0, d0, l0, r0, c0, k0, t0, a1, a2, a3, a4, a5, a6, a7, a8, a9, a10) x := by
  have main : ∃ n, wX_match_33 post x m0 p0 d0 l0 (nI N) k0 t0 n 0 0 a1 a2 a3 a4 a5 a6 a7 a8 a9 a10 := by
    refine ft_m33 hx (fun b3 h3 => ?_)
    have R5 : ft_cnt p 5 ≤ 5 := ft_cnt_le p 5
    refine ft_m75 R5 (fun b4 h4 => ft_m98 hq.2.1 (fun b5 b6 h5 h6 => ⟨ft_cnt p 5 + 1, ?_⟩))
    have hJ : ft_rj p 5 (fun r => (b3 r).toNatClampNeg) := fun j hj pj => by
      show (b3 (ft_cnt p j + 1)).toNatClampNeg = j
      rw [h3 j hj pj, nI_clamp (by omega)]
    have inv : ∀ r, 1 ≤ r → r ≤ ft_cnt p 5 → b3 r = nI (b3 r).toNatClampNeg ∧ (b3 r).toNatClampNeg < 5 := by
      intro r r1 r2
      obtain ⟨j, j1, j2, j3⟩ := ft_cnt_on p (r := r - 1) 5 (by omega)
      have e := h3 j j1 j2
      rw [j3, show r - 1 + 1 = r by omega] at e
      rw [e, nI_clamp (by omega)]
      exact ⟨rfl, j1⟩
    have hC : ∀ r c, 1 ≤ r → r ≤ ft_cnt p 5 → 1 ≤ c → c ≤ N → 0 ≤ (fun r c => ft_K o mA bo X (b3 r).toNatClampNeg c) r c ∧ (fun r c => ft_K o mA bo X (b3 r).toNatClampNeg c) r c ≤ 100000 := fun r c r1 r2 c1 c2 => ft_K_b hb (inv r r1 r2).2 c1 c2
    refine ft_m128 (R := ft_cnt p 5) (C := fun r c => ft_K o mA bo X (b3 r).toNatClampNeg c) hq.1 hq.2.1 R5 hC (fun Q y4 y5 y6 y7 y8 y9 r c r1 r2 c1 c2 hQ => ft_costOf hq (by omega) (inv r r1 r2).2 (inv r r1 r2).1 c1 c2 hQ) ?_ (ft_cnt p 5 + 1) 0 b4 b5 b6 _ _ _ (fun r => (b4 r).toInt) (fun _ => 0) (fun _ => 0) (by omega) (by omega) (fun r _ => (Int32.ofInt_toInt (b4 r)).symm) h5 h6 ?_
    · intro a4' a5' a6' a7' a8' a9' u' v' ρ' hh
      have op := ft_opt_of (N := N) (K := ft_K o mA bo X) hJ hh
      exact H _ _ _ b3 a4' a5' a6' a7' a8' a9' op (ft_opt_b hb op)
    · have u0 : ∀ r, r ≤ ft_cnt p 5 → (b4 r).toInt = 0 := fun r hr => by rw [h4 r hr]; rfl
      refine ⟨fun _ _ _ => Nat.le_refl 0, fun c d _ _ _ _ t => absurd rfl t, fun r r1 r2 => absurd r1 (by omega), fun r c r1 r2 c1 c2 => ?_, fun c _ _ t => absurd rfl t, fun _ _ _ => Int.le_refl 0, fun _ _ _ _ => rfl, fun r r1 r2 => ?_⟩
      · show (b4 r).toInt + 0 ≤ _
        rw [u0 r r2]
        exact (hC r c r1 r2 c1 c2).1
      · show 0 ≤ (b4 r).toInt
        rw [u0 r r2]
        exact Int.le_refl 0
  exact br_c (fun h => nm_r (hq.2.2.1.1 h) main) (fun h => nm_r (hq.2.2.1.2 h) main)
theorem ft_shr {S : Int} (h : -10 ≤ S ∧ S ≤ 600000) : (ft_Z S + 7) >>> ((3 : Int32) &&& 31) = ft_Z ((S + 7) / 8) := by
  have e : ft_Z S + 7 = ft_Z (S + 7) := ft_Z_add S 7
  rw [e]
  apply Int32.toInt_inj.mp
  rw [pk_shr _ _ 3 (by decide), ft_Z_i (by omega), ft_Z_i (by omega), Int.shiftRight_eq_div_pow]
  rfl
theorem ft_totalOf {post : Int32 → St1 → Prop} {x : Int32} {p : Nat → Bool} {m0 p0 d0 l0 r0 c0 k0 t0 : Int32} {a1 a2 a3 a4 a5 a6 a7 a8 a9 a10 : Nat → Int32} {N : Nat} {X : Nat → Nat} {o : Nat → Nat → Bool} {mA bo : Nat → Nat}
    (hx : ft_set x p) (hq : ft_qn m0 d0 l0 a1 a2 N X o mA bo) (hb : ft_cb o mA bo X N)
    (H : ∀ (S : Int) (r0' c0' : Int32) (a3' a4' a5' a6' a7' a8' a9' : Nat → Int32), ft_opt N p (ft_K o mA bo X) S → -1 ≤ ft_r S ∧ ft_r S ≤ 100000 → post (ft_Z (ft_r S)) (m0, p0, d0, l0, r0', c0', k0, t0, a1, a2, a3', a4', a5', a6', a7', a8', a9', a10)) :
    wpX_totalOf post (m0, p0, d0, l0, r0, c0, k0, t0, a1, a2, a3, a4, a5, a6, a7, a8, a9, a10) x := by
  unfold wpX_totalOf
  dsimp only
  refine ft_match hx hq hb (fun S r0' c0' a3' a4' a5' a6' a7' a8' a9' op sb => ?_)
  have h := H S r0' c0' a3' a4' a5' a6' a7' a8' a9' op
  unfold ft_r at h
  refine ft_lt S 100000 rfl rfl (by omega) (by omega) (fun t => ?_) (fun t => ?_)
  · rw [if_pos t] at h
    rw [ft_shr (by omega)]
    exact h (by omega)
  · rw [if_neg (by omega)] at h
    exact h (by omega)
end
section
/-! small sets of bits; has, isMachine, able, askPlainly -/
/-- x is a small set of bits f -/
def ft_bits (x : Int32) (f : Nat → Bool) : Prop := ∃ s, s < 32 ∧ x = nI s ∧ ∀ m, m < 5 → f m = s.testBit m
theorem ft_bits_k1 : ∀ s, s < 32 → ∀ m, m < 5 → (((nI s >>> (nI m &&& 31)) &&& 1 = 0) ↔ ¬ s.testBit m = true) := by decide +kernel
theorem ft_bits_k2 : ∀ s, s < 32 → ∀ m, m < 5 → nI s ||| ((1 : Int32) <<< (nI m &&& 31)) = nI (s ||| 2 ^ m) ∧ s ||| 2 ^ m < 32 ∧ ∀ k, k < 5 → (s.testBit k || decide (k = m)) = (s ||| 2 ^ m).testBit k := by decide +kernel
theorem ft_bits_k3 : ∀ m, m < 5 → ((1 : Int32) <<< (nI m &&& 31)).toInt8.toInt32 = nI (2 ^ m) ∧ 2 ^ m < 32 ∧ ∀ k, k < 5 → decide (k = m) = (2 ^ m).testBit k := by decide +kernel
theorem ft_bits_k4 : ∀ s, s < 32 → ∀ m, m < 5 → nI s &&& (((1 : Int32) <<< (nI m &&& 31)) ^^^ (-1)) = nI (s - (s &&& 2 ^ m)) ∧ s - (s &&& 2 ^ m) < 32 ∧ ∀ k, k < 5 → (if k = m then false else s.testBit k) = (s - (s &&& 2 ^ m)).testBit k := by decide +kernel
theorem ft_bits_k5 : ∀ s, s < 32 → ¬ s = 0 → ∃ m, m < 5 ∧ s.testBit m = true := by decide +kernel
theorem ft_bits_c {x : Int32} {f : Nat → Bool} (h : ft_bits x f) {m : Nat} (hm : m < 5) : (((x >>> (nI m &&& 31)) &&& 1 = 0) ↔ ¬ f m = true) := by
  obtain ⟨s, hs, rfl, e⟩ := h
  rw [e m hm]
  exact ft_bits_k1 s hs m hm
theorem ft_bits_0 {f : Nat → Bool} (h : ∀ m, m < 5 → f m = false) : ft_bits 0 f := ⟨0, by omega, rfl, fun m hm => by rw [h m hm, Nat.zero_testBit]⟩
theorem ft_bits_cg {x : Int32} {f g : Nat → Bool} (h : ft_bits x f) (e : ∀ m, m < 5 → g m = f m) : ft_bits x g := by
  obtain ⟨s, hs, hx, t⟩ := h
  exact ⟨s, hs, hx, fun m hm => by rw [e m hm, t m hm]⟩
theorem ft_bits_or {x : Int32} {f g : Nat → Bool} (h : ft_bits x f) {m : Nat} (hm : m < 5) (e : ∀ k, k < 5 → g k = (f k || decide (k = m))) : ft_bits (x ||| ((1 : Int32) <<< (nI m &&& 31))) g := by
  obtain ⟨s, hs, rfl, t⟩ := h
  have k := ft_bits_k2 s hs m hm
  exact ⟨_, k.2.1, k.1, fun i hi => by rw [e i hi, t i hi]; exact k.2.2 i hi⟩
theorem ft_bits_1 {g : Nat → Bool} {m : Nat} (hm : m < 5) (e : ∀ k, k < 5 → g k = decide (k = m)) : ft_bits (((1 : Int32) <<< (nI m &&& 31)).toInt8.toInt32) g := by
  have k := ft_bits_k3 m hm
  exact ⟨_, k.2.1, k.1, fun i hi => by rw [e i hi]; exact k.2.2 i hi⟩
theorem ft_bits_n {x : Int32} {f g : Nat → Bool} (h : ft_bits x f) {m : Nat} (hm : m < 5) (e : ∀ k, k < 5 → g k = (if k = m then false else f k)) : ft_bits (x &&& (((1 : Int32) <<< (nI m &&& 31)) ^^^ (-1))) g := by
  obtain ⟨s, hs, rfl, t⟩ := h
  have k := ft_bits_k4 s hs m hm
  exact ⟨_, k.2.1, k.1, fun i hi => by rw [e i hi, t i hi]; exact k.2.2 i hi⟩
theorem ft_bits_b {x : Int32} {f : Nat → Bool} (h : ft_bits x f) : ft_bits x.toInt8.toInt32 f := by
  obtain ⟨s, hs, rfl, t⟩ := h
  exact ⟨s, hs, ft_by s (by omega), t⟩
theorem ft_bits_z {x : Int32} {f : Nat → Bool} (h : ft_bits x f) (hx : ¬ x = 0) : ∃ m, m < 5 ∧ f m = true := by
  obtain ⟨s, hs, rfl, t⟩ := h
  obtain ⟨m, hm, e⟩ := ft_bits_k5 s hs (fun z => hx (by rw [z]; rfl))
  exact ⟨m, hm, by rw [t m hm]; exact e⟩
theorem ft_bits_s {x : Int32} {p : Nat → Bool} (h : ft_bits x p) : ft_set x p := fun j hj => ft_bits_c h hj
theorem ft_has {Q : Int32 → Prop} {m0 p0 d0 l0 r0 c0 k0 t0 : Int32} {a1 a2 a3 a4 a5 a6 a7 a8 a9 a10 : Nat → Int32} {p : Nat → Bool} (hp : ft_bits p0 p) {j : Nat} (hj : j < 5) (H1 : p j = true → Q 1) (H0 : ¬ p j = true → Q 0) :
    wpX_has Q (m0, p0, d0, l0, r0, c0, k0, t0, a1, a2, a3, a4, a5, a6, a7, a8, a9, a10) (nI j) := by
  refine pk_lt j 0 (fun t => absurd t (by omega)) (fun _ => pk_le 5 j (fun t => absurd t (by omega)) (fun _ => br_c (fun h => H0 ((ft_bits_c hp hj).mp h)) (fun h => H1 ?_)))
  by_cases z : p j = true
  · exact z
  · exact absurd ((ft_bits_c hp hj).mpr z) h
theorem ft_isM {Q : Int32 → Prop} {p0 d0 l0 r0 c0 k0 t0 : Int32} {a1 a2 a3 a4 a5 a6 a7 a8 a9 a10 : Nat → Int32} {M m : Nat} (hM : M ≤ 3) (hm : m < 100) (H1 : m < M → Q 1) (H0 : M ≤ m → Q 0) :
    wpX_isMachine Q (nI M, p0, d0, l0, r0, c0, k0, t0, a1, a2, a3, a4, a5, a6, a7, a8, a9, a10) (nI m) :=
  pk_lt m 0 (fun t => absurd t (by omega)) (fun _ => pk_le M m H0 H1)
theorem ft_able {Q : Int32 → Prop} {p0 d0 l0 r0 c0 k0 t0 : Int32} {a1 a2 a3 a4 a5 a6 a7 a8 a9 a10 : Nat → Int32} {M : Nat} {X : Nat → Nat} (hM : M ≤ 3) (h1 : ft_an 15 a1 X) (hX : ∀ k, k < 15 → X k ≤ 15) {j : Nat} (hj : j < 5) (H : ∀ x, ft_bits x (ft_o0 M X j) → Q x) :
    wpX_able Q (nI M, p0, d0, l0, r0, c0, k0, t0, a1, a2, a3, a4, a5, a6, a7, a8, a9, a10) (nI j) := by
  refine pk_loop (fun n m (x : Int32) => wX_able_4 Q (nI j) (nI M) p0 d0 l0 r0 c0 k0 t0 a1 a2 a3 a4 a5 a6 a7 a8 a9 a10 n x (nI m)) (fun m x => ft_bits x (fun k => decide (k < m ∧ 0 < X (3 * j + k)))) M 0 0 (by omega) ?_ ?_ ?_
  · exact ft_bits_0 (fun m _ => decide_eq_false (by omega))
  · intro n x h
    exact pk_le M M (fun _ => H x h) (fun t => absurd t (by omega))
  · intro n m x hm h hw
    refine pk_le M m (fun t => absurd t (by omega)) (fun _ => ?_)
    rw [ft_ix, nI_clamp (show 3 * j + m < 2 ^ 31 by omega), h1 (3 * j + m) (by omega)]
    have xb := hX (3 * j + m) (by omega)
    refine ⟨pk_in (3 * j + m) 15 (by omega), pk_le (X (3 * j + m)) 0 (fun t => nm_r (nI_1 m) (hw x (ft_bits_cg h (fun k hk => ?_)))) (fun t => nm_e (nm_r (nI_1 m) (hw _ (ft_bits_or h (by omega) (fun k hk => ?_)))))⟩
    · show decide (k < m + 1 ∧ 0 < X (3 * j + k)) = decide (k < m ∧ 0 < X (3 * j + k))
      by_cases e : k = m
      · rw [e, decide_eq_false (by omega), decide_eq_false (by omega)]
      · exact decide_eq_decide.mpr ⟨fun z => ⟨by omega, z.2⟩, fun z => ⟨by omega, z.2⟩⟩
    · show decide (k < m + 1 ∧ 0 < X (3 * j + k)) = (decide (k < m ∧ 0 < X (3 * j + k)) || decide (k = m))
      by_cases e : k = m
      · rw [e, decide_eq_true (show m < m + 1 ∧ 0 < X (3 * j + m) from ⟨by omega, t⟩), decide_eq_true rfl, Bool.or_true]
      · rw [decide_eq_false e, Bool.or_false]
        exact decide_eq_decide.mpr ⟨fun z => ⟨by omega, z.2⟩, fun z => ⟨by omega, z.2⟩⟩
theorem ft_ask {post : St1 → Prop} {p0 d0 l0 r0 c0 k0 t0 : Int32} {a1 a2 a3 a4 a5 a6 a7 a8 a9 a10 : Nat → Int32} {M : Nat} {X : Nat → Nat} (hM : M ≤ 3) (h1 : ft_an 15 a1 X) (hX : ∀ k, k < 15 → X k ≤ 15)
    (H : ∀ a2', (∀ j, j < 5 → ft_bits (a2' j) (ft_o0 M X j)) → post (nI M, p0, -1, -1, r0, c0, k0, t0, a1, a2', a3, a4, a5, a6, a7, a8, a9, a10)) :
    wpX_askPlainly post (nI M, p0, d0, l0, r0, c0, k0, t0, a1, a2, a3, a4, a5, a6, a7, a8, a9, a10) := by
  refine pk_loop (fun n j (b : Nat → Int32) => wX_askPlainly_2 post (nI M) p0 d0 l0 r0 c0 k0 t0 n (nI j) a1 b a3 a4 a5 a6 a7 a8 a9 a10) (fun j b => ∀ i, i < j → ft_bits (b i) (ft_o0 M X i)) 5 0 a2 (by omega) (fun i hi => absurd hi (by omega)) ?_ ?_
  · intro n b h
    exact pk_le 5 5 (fun _ => H b h) (fun t => absurd t (by omega))
  · intro n j b hj h hw
    refine pk_le 5 j (fun t => absurd t (by omega)) (fun _ => ft_able hM h1 hX hj (fun x hx => ⟨pk_in j 5 hj, ?_⟩))
    rw [nI_clamp (show j < 2 ^ 31 by omega)]
    refine nm_e (nm_r (nI_1 j) (hw _ (fun i hi => ?_)))
    by_cases e : i = j
    · rw [e, pk_us]; exact ft_bits_b hx
    · rw [pk_un e]; exact h i (by omega)
theorem ft_m1 : ∀ m, m < 3 → ¬ nI m = -1 := by decide
/-- a question is put together -/
theorem ft_qn_mk {M d N : Nat} {d0 l0 : Int32} {a1 a2 : Nat → Int32} {X : Nat → Nat} {o : Nat → Nat → Bool} {bo : Nat → Nat} (hM1 : 1 ≤ M) (hM : M ≤ 3) (h1 : ft_an 15 a1 X) (hX : ∀ k, k < 15 → X k ≤ 15) (h2 : ∀ j, j < 5 → ft_bits (a2 j) (o j))
    (hd : d < M) (hN : (d0 = -1 ∧ N = 5 * M) ∨ (d0 = nI d ∧ N = 5 * (M + 1))) (hl : (l0 = -1 ∧ bo = ft_b0) ∨ (∃ l, l < 3 ∧ l0 = nI l ∧ bo = ft_b1 l)) :
    ft_qn (nI M) d0 l0 a1 a2 N X o (ft_mA M d) bo := by
  refine ⟨by omega, by omega, ⟨fun h => ?_, fun h => ?_⟩, fun c _ _ => ?_, fun c c1 c2 => ⟨fun h => ?_, fun h => ?_⟩, ⟨h1, hX⟩, fun j m hj hm => ft_bits_c (h2 j hj) (by omega), fun m hm => ?_⟩
  · rcases hN with ⟨_, e⟩ | ⟨e, _⟩
    · rw [e, Nat.mul_comm]; exact pk_mul M 5
    · rw [e] at h; exact absurd h (nI_pos (by omega))
  · rcases hN with ⟨e, _⟩ | ⟨_, e⟩
    · rw [e] at h; exact absurd (by decide) h
    · rw [e, Nat.mul_comm, nI_1]; exact pk_mul (M + 1) 5
  · have := ft_mA_lt (c := c) hd; omega
  · have h' : M ≤ (c - 1) / 5 := (nI_leI (by omega) (by omega)).mp h
    rcases hN with ⟨_, e⟩ | ⟨e, _⟩
    · omega
    · rw [e]
      unfold ft_mA
      rw [if_neg (by omega)]
  · have h' : ¬ M ≤ (c - 1) / 5 := fun z => h ((nI_leI (by omega) (by omega)).mpr z)
    unfold ft_mA
    rw [if_pos (by omega)]
  · rcases hl with ⟨e, e2⟩ | ⟨l, l1, e, e2⟩
    · rw [e, e2]
      exact ⟨fun h => absurd h (ft_m1 m hm), fun _ => ft_b0_0 m⟩
    · rw [e, e2]
      refine ⟨fun h => ?_, fun h => ?_⟩
      · exact if_pos ((nI_eq (by omega) (by omega)).mp h)
      · exact if_neg (fun z => h (by rw [z]))
end
section
/-! the walk of firstMachine and learn -/
theorem ft_f9 {post : Int32 → St1 → Prop} {p0 k0 xs : Int32} {a1 a10 : Nat → Int32} {M : Nat} {X : Nat → Nat} {p : Nat → Bool} {lt : Int} {o : Nat → Nat → Bool} (D : ft_D M X p) (hp : ft_bits p0 p) (h1 : ft_an 15 a1 X) (f1 : ft_F1 M X p lt) (l0' : 0 ≤ lt) (l1 : lt ≤ 375)
    {j : Nat} (hj : j < 5) (pj : p j = true) (hx : ft_bits xs (o j)) (ho : ∀ i k, i < 5 → o i k = true → ft_o0 M X i k = true) (f2 : ft_F2 M X p o lt)
    (H : ∀ (m : Nat) (r0' c0' : Int32) (a2' a3' a4' a5' a6' a7' a8' a9' : Nat → Int32), m < M → (∀ i, i < 5 → ft_bits (a2' i) (ft_on o j m i)) → o j m = true → ft_F2 M X p (ft_on o j m) lt → post (nI m) (nI M, p0, -1, -1, r0', c0', k0, ft_Z lt, a1, a2', a3', a4', a5', a6', a7', a8', a9', a10)) :
    ∀ (f m : Nat) (r0 c0 : Int32) (a2 a3 a4 a5 a6 a7 a8 a9 : Nat → Int32), M - m < f → m ≤ M → (∀ i, i < 5 → i ≠ j → ft_bits (a2 i) (o i)) → (∀ m', m' < m → o j m' = true → ¬ ft_F2 M X p (ft_on o j m') lt) →
      wX_firstMachine_9 post (nI j) xs f (nI m) (nI M) p0 (-1) (-1) r0 c0 k0 (ft_Z lt) a1 a2 a3 a4 a5 a6 a7 a8 a9 a10 := by
  intro f
  induction f with
  | zero => intro m r0 c0 a2 a3 a4 a5 a6 a7 a8 a9 h; omega
  | succ f ih =>
    intro m r0 c0 a2 a3 a4 a5 a6 a7 a8 a9 hf hm h2 hn
    have hM := D.2.1
    refine pk_le M m (fun t => ?_) (fun t => br_c (fun h => ?_) (fun h => ⟨pk_in j 5 hj, ?_⟩))
    · obtain ⟨m', e1, e2⟩ := ft_F2_split hj pj f2
      have := (ft_o0_i.mp (ho j m' hj e1)).1
      exact absurd e2 (hn m' (by omega) e1)
    · have om := (ft_bits_c hx (show m < 5 by omega)).mp h
      refine nm_r (nI_1 m) (ih (m + 1) r0 c0 a2 a3 a4 a5 a6 a7 a8 a9 (by omega) (by omega) h2 (fun m' h' e => ?_))
      by_cases z : m' = m
      · rw [z] at e; exact absurd e om
      · exact hn m' (by omega) e
    · have om : o j m = true := by
        by_cases z : o j m = true
        · exact z
        · exact absurd ((ft_bits_c hx (show m < 5 by omega)).mpr z) h
      rw [nI_clamp (show j < 2 ^ 31 by omega), ft_tw_totalOf]
      have on := ft_on_s (j := j) (m := m) ho (ho j m hj om)
      have b2 : ∀ i, i < 5 → ft_bits (upd a2 j (((1 : Int32) <<< (nI m &&& 31)).toInt8.toInt32) i) (ft_on o j m i) := by
        intro i hi
        by_cases e : i = j
        · rw [e, pk_us]
          exact ft_bits_1 (by omega) (fun k hk => if_pos rfl)
        · rw [pk_un e]
          exact ft_bits_cg (h2 i hi e) (fun k hk => ft_on_n e)
      refine nm_e (ft_totalOf (ft_bits_s hp) (ft_qn_mk (d := 0) (bo := ft_b0) D.1 hM h1 D.2.2.1 b2 (by omega) (Or.inl ⟨rfl, rfl⟩) (Or.inl ⟨rfl, rfl⟩)) (ft_cb_o D (by omega) on (fun m => by rw [ft_b0_0]; omega)) ?_)
      intro S r0' c0' a3' a4' a5' a6' a7' a8' a9' op bd
      have ty := (ft_try D f1 l0' l1 on op).1
      refine ft_eq (ft_r S) lt rfl rfl (by omega) (by omega) (fun e => ?_) (fun e => ?_)
      · exact H m r0' c0' _ a3' a4' a5' a6' a7' a8' a9' t b2 om (ty.mp e)
      · refine nm_r (nI_1 m) (ih (m + 1) r0' c0' _ a3' a4' a5' a6' a7' a8' a9' (by omega) (by omega) (fun i hi ne => ?_) (fun m' h' e' => ?_))
        · rw [pk_un ne]; exact h2 i hi ne
        · by_cases z : m' = m
          · rw [z]; exact fun y => e (ty.mpr y)
          · exact hn m' (by omega) e'
theorem ft_first {post : Int32 → St1 → Prop} {p0 r0 c0 k0 : Int32} {a1 a2 a3 a4 a5 a6 a7 a8 a9 a10 : Nat → Int32} {M : Nat} {X : Nat → Nat} {p : Nat → Bool} {lt : Int} {o : Nat → Nat → Bool} (D : ft_D M X p) (hp : ft_bits p0 p) (h1 : ft_an 15 a1 X) (f1 : ft_F1 M X p lt) (l0' : 0 ≤ lt) (l1 : lt ≤ 375)
    {j : Nat} (hj : j < 5) (pj : p j = true) (h2 : ∀ i, i < 5 → ft_bits (a2 i) (o i)) (ho : ∀ i k, i < 5 → o i k = true → ft_o0 M X i k = true) (f2 : ft_F2 M X p o lt)
    (H : ∀ (m : Nat) (r0' c0' : Int32) (a2' a3' a4' a5' a6' a7' a8' a9' : Nat → Int32), m < M → (∀ i, i < 5 → ft_bits (a2' i) (ft_on o j m i)) → o j m = true → ft_F2 M X p (ft_on o j m) lt → post (nI m) (nI M, p0, -1, -1, r0', c0', k0, ft_Z lt, a1, a2', a3', a4', a5', a6', a7', a8', a9', a10)) :
    wpX_firstMachine post (nI M, p0, -1, -1, r0, c0, k0, ft_Z lt, a1, a2, a3, a4, a5, a6, a7, a8, a9, a10) (nI j) := by
  refine ⟨pk_in j 5 hj, ?_⟩
  rw [nI_clamp (show j < 2 ^ 31 by omega)]
  exact nm_e ⟨M + 1, ft_f9 D hp h1 f1 l0' l1 hj pj (h2 j hj) ho f2 H (M + 1) 0 r0 c0 a2 a3 a4 a5 a6 a7 a8 a9 (by omega) (by omega) (fun i hi _ => h2 i hi) (fun m' h' => absurd h' (by omega))⟩
/-- what the desk keeps, the plan known -/
def ft_V (M : Nat) (X : Nat → Nat) (p : Nat → Bool) (lt : Int) (b : Nat → Nat) (u : St1) : Prop := match u with
  | (m0, p0, d0, l0, r0, c0, k0, t0, a1, a2, a3, a4, a5, a6, a7, a8, a9, a10) => m0 = nI M ∧ ft_bits p0 p ∧ ft_an 15 a1 X ∧ ft_D M X p ∧ ¬ k0 = 0 ∧ t0 = ft_Z lt ∧ ft_F M X p lt b ∧ ∀ j, j < 5 → p j = true → a10 j = nI (b j)
/-- what the desk keeps, the plan known or not -/
def ft_U (M : Nat) (X : Nat → Nat) (p : Nat → Bool) (u : St1) : Prop := match u with
  | (m0, p0, d0, l0, r0, c0, k0, t0, a1, a2, a3, a4, a5, a6, a7, a8, a9, a10) => m0 = nI M ∧ ft_bits p0 p ∧ ft_an 15 a1 X ∧ ft_D M X p ∧ (k0 = 0 ∨ ∃ lt b, ft_V M X p lt b (m0, p0, d0, l0, r0, c0, k0, t0, a1, a2, a3, a4, a5, a6, a7, a8, a9, a10))
theorem ft_l31 {post : St1 → Prop} {p0 k0 : Int32} {a1 : Nat → Int32} {M : Nat} {X : Nat → Nat} {p : Nat → Bool} {lt : Int} (D : ft_D M X p) (hp : ft_bits p0 p) (h1 : ft_an 15 a1 X) (f1 : ft_F1 M X p lt) (l0' : 0 ≤ lt) (l1 : lt ≤ 375) (hk : ¬ k0 = 0)
    (H : ∀ (b : Nat → Nat) (u : St1), ft_V M X p lt b u → post u) :
    ∀ (f j : Nat) (r0 c0 : Int32) (a2 a3 a4 a5 a6 a7 a8 a9 a10 : Nat → Int32) (o : Nat → Nat → Bool) (b : Nat → Nat), 5 - j < f → j ≤ 5 → (∀ i, i < 5 → ft_bits (a2 i) (o i)) → (∀ i k, i < 5 → o i k = true → ft_o0 M X i k = true) → ft_F2 M X p o lt →
      (∀ i, i < j → p i = true → a10 i = nI (b i) ∧ ∀ k, o i k = true → k = b i) → wX_learn_31 post f (nI j) (nI M) p0 (-1) (-1) r0 c0 k0 (ft_Z lt) a1 a2 a3 a4 a5 a6 a7 a8 a9 a10 := by
  intro f
  induction f with
  | zero => intro j r0 c0 a2 a3 a4 a5 a6 a7 a8 a9 a10 o b h; omega
  | succ f ih =>
    intro j r0 c0 a2 a3 a4 a5 a6 a7 a8 a9 a10 o b hf hj h2 ho f2 hb
    refine pk_le 5 j (fun t => ?_) (fun t => ft_has hp t (fun pj => br_f (by decide) ?_) (fun pj => br_t rfl (nm_r (nI_1 j) (ih (j + 1) r0 c0 a2 a3 a4 a5 a6 a7 a8 a9 a10 o b (by omega) (by omega) h2 ho f2 (fun i hi pi => ?_)))))
    · have e : j = 5 := by omega
      subst e
      refine H b _ ⟨rfl, hp, h1, D, hk, rfl, ⟨l0', l1, f1, ?_⟩, fun i hi pi => (hb i hi pi).1⟩
      obtain ⟨y, y1, y2, y3⟩ := f2
      exact ⟨y, y1, fun i hi pi => ho i _ hi (y2 i hi pi), fun i hi pi => (hb i hi pi).2 _ (y2 i hi pi), y3⟩
    · refine ft_first D hp h1 f1 l0' l1 t pj h2 ho f2 ?_
      intro m r0' c0' a2' a3' a4' a5' a6' a7' a8' a9' mM b2 om f2'
      have hM := D.2.1
      refine ⟨pk_in j 5 t, ?_⟩
      rw [nI_clamp (show j < 2 ^ 31 by omega), ft_by m (by omega)]
      refine nm_e ⟨pk_in j 5 t, pk_in j 5 t, ?_⟩
      rw [pk_us]
      refine nm_e (nm_r (nI_1 j) (ih (j + 1) r0' c0' _ a3' a4' a5' a6' a7' a8' a9' _ (ft_on o j m) (ft_un b j m) (by omega) (by omega) (fun i hi => ?_) (ft_on_s ho (ho j m t om)) f2' (fun i hi pi => ?_)))
      · by_cases e : i = j
        · rw [e, pk_us]
          exact ft_bits_1 (by omega) (fun k hk => if_pos rfl)
        · rw [pk_un e]; exact b2 i hi
      · by_cases e : i = j
        · rw [e, pk_us, ft_un_s]
          exact ⟨rfl, fun k hk => ft_on_e.mp hk⟩
        · rw [pk_un e, ft_un_n e]
          refine ⟨(hb i (by omega) pi).1, fun k hk => ?_⟩
          rw [ft_on_n e] at hk
          exact (hb i (by omega) pi).2 k hk
    · by_cases e : i = j
      · rw [e] at pi; exact absurd pi pj
      · exact hb i (by omega) pi
theorem ft_learn {post : St1 → Prop} {M : Nat} {X : Nat → Nat} {p : Nat → Bool} {u : St1} (h : ft_U M X p u) (H : ∀ (lt : Int) (b : Nat → Nat) (u' : St1), ft_V M X p lt b u' → post u') : wpX_learn post u := by
  obtain ⟨m0, p0, d0, l0, r0, c0, k0, t0, a1, a2, a3, a4, a5, a6, a7, a8, a9, a10⟩ := u
  obtain ⟨rfl, hp, h1, D, hk⟩ := h
  refine br_c (fun e => ?_) (fun e => ?_)
  · refine ft_ask D.2.1 h1 D.2.2.1 (fun b2 h2 => ?_)
    have M1 := D.1
    refine ft_totalOf (ft_bits_s hp) (ft_qn_mk (d := 0) (bo := ft_b0) D.1 D.2.1 h1 D.2.2.1 h2 (by omega) (Or.inl ⟨rfl, rfl⟩) (Or.inl ⟨rfl, rfl⟩)) (ft_cb_o D (by omega) (fun _ _ _ z => z) (fun m => by rw [ft_b0_0]; omega)) ?_
    intro S r0' c0' a3' a4' a5' a6' a7' a8' a9' op bd
    obtain ⟨s1, s2, s3, s4⟩ := ft_start D op
    exact ⟨6, ft_l31 D hp h1 s1 s3 s4 (by decide) (H (ft_r S)) 6 0 r0' c0' b2 a3' a4' a5' a6' a7' a8' a9' a10 (ft_o0 M X) (fun _ => 0) (by omega) (by omega) h2 (fun _ _ _ z => z) s2 (fun i hi => absurd hi (by omega))⟩
  · rcases hk with z | ⟨lt, b, z⟩
    · exact absurd z e
    · exact H lt b _ z
/-- known already: nothing is done -/
theorem ft_learned {post : St1 → Prop} {M : Nat} {X : Nat → Nat} {p : Nat → Bool} {lt : Int} {b : Nat → Nat} {u : St1} (h : ft_V M X p lt b u) (H : post u) : wpX_learn post u := by
  obtain ⟨m0, p0, d0, l0, r0, c0, k0, t0, a1, a2, a3, a4, a5, a6, a7, a8, a9, a10⟩ := u
  obtain ⟨rfl, hp, h1, D, hk, _⟩ := h
  exact br_f hk H
end
section
/-! the walks of the questions, the plan known -/
theorem ft_least {post : Int32 → St1 → Prop} {M : Nat} {X : Nat → Nat} {p : Nat → Bool} {u : St1} (h : ft_U M X p u) (H : ∀ (lt : Int) (b : Nat → Nat) (u' : St1), ft_V M X p lt b u' → post (ft_Z lt) u') : wpX_least post u := by
  obtain ⟨m0, p0, d0, l0, r0, c0, k0, t0, a1, a2, a3, a4, a5, a6, a7, a8, a9, a10⟩ := u
  unfold wpX_least
  dsimp only
  refine ft_learn h (fun lt b u' v => ?_)
  obtain ⟨m0', p0', d0', l0', r0', c0', k0', t0', a1', a2', a3', a4', a5', a6', a7', a8', a9', a10'⟩ := u'
  have e : t0' = ft_Z lt := v.2.2.2.2.2.1
  have t := H lt b _ v
  rw [← e] at t
  exact t
theorem ft_machineOf {post : Int32 → St1 → Prop} {M : Nat} {X : Nat → Nat} {p : Nat → Bool} {lt : Int} {b : Nat → Nat} {u : St1} (v : ft_V M X p lt b u) {j : Nat} (hj : j < 5) (H1 : p j = true → post (nI (b j)) u) (H0 : ¬ p j = true → post (-1) u) : wpX_machineOf post u (nI j) := by
  obtain ⟨m0, p0, d0, l0, r0, c0, k0, t0, a1, a2, a3, a4, a5, a6, a7, a8, a9, a10⟩ := u
  have v0 := v
  obtain ⟨rfl, hp, h1, D, hk, ht, F, hb⟩ := v
  unfold wpX_machineOf
  dsimp only
  refine ft_has hp hj (fun pj => br_f (by decide) (ft_learned v0 ⟨pk_in j 5 hj, ?_⟩)) (fun pj => br_t rfl (H0 pj))
  dsimp only
  rw [nI_clamp (show j < 2 ^ 31 by omega), hb j hj pj]
  exact H1 pj
theorem ft_fb {p : Nat → Bool} {b x : Nat → Nat} (hx : ∀ i, i < 5 → p i = true → x i ≤ 15) (j : Nat) : ∀ n, n ≤ 5 → 0 ≤ ft_fj p b x j n ∧ ft_fj p b x j n ≤ 15 * n := by
  intro n
  induction n with
  | zero => intro _; exact ⟨Int.le_refl _, Int.le_refl _⟩
  | succ n ih =>
    intro h
    have i := ih (by omega)
    show 0 ≤ ft_fj p b x j n + (if ft_bf p b x n j = true then (x n : Int) else 0) ∧ ft_fj p b x j n + (if ft_bf p b x n j = true then (x n : Int) else 0) ≤ _
    by_cases z : ft_bf p b x n j = true
    · rw [if_pos z]
      have := hx n (by omega) (ft_bf_i.mp z).1.1
      omega
    · rw [if_neg z]; omega
theorem ft_finishOf {post : Int32 → St1 → Prop} {M : Nat} {X : Nat → Nat} {p : Nat → Bool} {lt : Int} {b : Nat → Nat} {u : St1} (v : ft_V M X p lt b u) {j : Nat} (hj : j < 5) (H1 : p j = true → post (ft_Z (ft_fj p b (fun i => X (3 * i + b i)) j 5)) u) (H0 : ¬ p j = true → post (-1) u) : wpX_finishOf post u (nI j) := by
  obtain ⟨m0, p0, d0, l0, r0, c0, k0, t0, a1, a2, a3, a4, a5, a6, a7, a8, a9, a10⟩ := u
  have v0 := v
  obtain ⟨rfl, hp, h1, D, hk, ht, F, hb⟩ := v
  have hM := D.2.1
  have hX := D.2.2.1
  unfold wpX_finishOf
  dsimp only
  refine ft_has hp hj (fun pj => br_f (by decide) (ft_learned v0 ⟨pk_in j 5 hj, ?_⟩)) (fun pj => br_t rfl (H0 pj))
  have bj := ft_F_b F hj pj
  dsimp only
  rw [nI_clamp (show j < 2 ^ 31 by omega), hb j hj pj]
  refine nm_e ?_
  rw [ft_ix, nI_clamp (show 3 * j + b j < 2 ^ 31 by omega), h1 (3 * j + b j) (by omega)]
  refine ⟨pk_in (3 * j + b j) 15 (by omega), nm_e ?_⟩
  have H1' := H1 pj
  refine pk_loop (fun n i (y : Int) => wX_finishOf_38 post (nI j) (nI (b j)) (nI (X (3 * j + b j))) (nI M) p0 d0 l0 r0 c0 k0 t0 a1 a2 a3 a4 a5 a6 a7 a8 a9 a10 n (ft_Z y) (nI i)) (fun i y => y = ft_fj p b (fun i => X (3 * i + b i)) j i) 5 0 0 (by omega) rfl ?_ ?_
  · intro n y e
    refine pk_le 5 5 (fun _ => ?_) (fun t => absurd t (by omega))
    rw [e]
    exact H1'
  · intro n i y hi e hw
    have no : ¬ ft_bf p b (fun i => X (3 * i + b i)) i j = true → y = ft_fj p b (fun i => X (3 * i + b i)) j (i + 1) := by
      intro z
      show y = ft_fj p b (fun i => X (3 * i + b i)) j i + (if ft_bf p b (fun i => X (3 * i + b i)) i j = true then ((fun i => X (3 * i + b i)) i : Int) else 0)
      rw [if_neg z, ← e, Int.add_zero]
    have yes : ft_bf p b (fun i => X (3 * i + b i)) i j = true → y + (X (3 * i + b i) : Int) = ft_fj p b (fun i => X (3 * i + b i)) j (i + 1) := by
      intro z
      show _ = ft_fj p b (fun i => X (3 * i + b i)) j i + (if ft_bf p b (fun i => X (3 * i + b i)) i j = true then ((fun i => X (3 * i + b i)) i : Int) else 0)
      rw [if_pos z, ← e]
    refine pk_le 5 i (fun t => absurd t (by omega)) (fun _ => ft_has hp hi (fun pi => br_f (by decide) ⟨pk_in i 5 hi, ?_⟩) (fun pi => br_t rfl (nm_r (nI_1 i) (hw y (no (fun z => pi (ft_bf_i.mp z).1.1))))))
    have bi := ft_F_b F hi pi
    rw [nI_clamp (show i < 2 ^ 31 by omega), hb i hi pi]
    refine pk_eq (b i) (b j) (fun eb => ?_) (fun eb => nm_r (nI_1 i) (hw y (no (fun z => eb (ft_bf_i.mp z).1.2.2))))
    rw [ft_ix, nI_clamp (show 3 * i + b j < 2 ^ 31 by omega), h1 (3 * i + b j) (by omega)]
    have xi := hX (3 * i + b i) (by omega)
    have xj := hX (3 * j + b j) (by omega)
    have T1 : ft_bf p b (fun i => X (3 * i + b i)) i j = true → wX_finishOf_38 post (nI j) (nI (b j)) (nI (X (3 * j + b j))) (nI M) p0 d0 l0 r0 c0 k0 t0 a1 a2 a3 a4 a5 a6 a7 a8 a9 a10 n (ft_Z y + nI (X (3 * i + b i))) (nI (i + 1)) := by
      intro z
      rw [ft_Z_n (X (3 * i + b i)), ft_Z_add]
      exact hw _ (yes z)
    have T0 : ¬ ft_bf p b (fun i => X (3 * i + b i)) i j = true → wX_finishOf_38 post (nI j) (nI (b j)) (nI (X (3 * j + b j))) (nI M) p0 d0 l0 r0 c0 k0 t0 a1 a2 a3 a4 a5 a6 a7 a8 a9 a10 n (ft_Z y + 0) (nI (i + 1)) := by
      intro z
      have e0 : ft_Z y + 0 = ft_Z y := by rw [← ft_Z_0, ft_Z_add, Int.add_zero]
      rw [e0]
      exact hw _ (no z)
    have co : (p i = true ∧ p j = true ∧ b i = b j) := ⟨pi, pj, eb⟩
    rw [eb] at T1 xi
    refine ⟨pk_in (3 * i + b j) 15 (by omega), nm_e (pk_lt (X (3 * i + b j)) (X (3 * j + b j)) (fun q => ?_) (fun q => pk_eq (X (3 * i + b j)) (X (3 * j + b j)) (fun q2 => pk_lt j i (fun q3 => ?_) (fun q3 => ?_)) (fun q2 => ?_)))⟩
    · refine br_f (by decide) (nm_e (nm_r (nI_1 i) (T1 (ft_bf_i.mpr ⟨co, Or.inl ?_⟩))))
      show X (3 * i + b i) < X (3 * j + b j)
      rw [eb]; exact q
    · refine br_t rfl (nm_e (nm_r (nI_1 i) (T0 (fun z => ?_))))
      have z2 : X (3 * i + b i) < X (3 * j + b j) ∨ X (3 * i + b i) = X (3 * j + b j) ∧ i ≤ j := (ft_bf_i.mp z).2
      rw [eb] at z2
      omega
    · refine br_f (by decide) (nm_e (nm_r (nI_1 i) (T1 (ft_bf_i.mpr ⟨co, Or.inr ⟨?_, q3⟩⟩))))
      show X (3 * i + b i) = X (3 * j + b j)
      rw [eb]; exact q2
    · refine br_t rfl (nm_e (nm_r (nI_1 i) (T0 (fun z => ?_))))
      have z2 : X (3 * i + b i) < X (3 * j + b j) ∨ X (3 * i + b i) = X (3 * j + b j) ∧ i ≤ j := (ft_bf_i.mp z).2
      rw [eb] at z2
      omega
theorem ft_time {Q : Int32 → Prop} {M : Nat} {X : Nat → Nat} {p : Nat → Bool} {lt : Int} {b : Nat → Nat} {u : St1} (v : ft_V M X p lt b u) {j m : Nat} (hj : j < 5) (pj : p j = true) (hm : m < M) (H : Q (nI (X (3 * j + m)))) : wpX_time Q u (nI j) (nI m) := by
  obtain ⟨m0, p0, d0, l0, r0, c0, k0, t0, a1, a2, a3, a4, a5, a6, a7, a8, a9, a10⟩ := u
  obtain ⟨rfl, hp, h1, D, hk, ht, F, hb⟩ := v
  have hM := D.2.1
  unfold wpX_time
  dsimp only
  refine ft_has hp hj (fun _ => br_f (by decide) (ft_isM hM (by omega) (fun _ => br_f (by decide) ?_) (fun t => absurd t (by omega)))) (fun z => absurd pj z)
  rw [ft_ix, nI_clamp (show 3 * j + m < 2 ^ 31 by omega), h1 (3 * j + m) (by omega)]
  exact ⟨pk_in (3 * j + m) 15 (by omega), H⟩
theorem ft_leastWith {post : Int32 → St1 → Prop} {M : Nat} {X : Nat → Nat} {p : Nat → Bool} {lt : Int} {b : Nat → Nat} {u : St1} (v : ft_V M X p lt b u) {j m : Nat} (hj : j < 5) (pj : p j = true) (hm : m < M)
    (H : ∀ (r : Int) (u' : St1), ft_V M X p lt b u' → -1 ≤ r ∧ r ≤ 100000 → (r = -1 ∨ lt ≤ r) → (m = b j → r = lt) → post (ft_Z r) u') : wpX_leastWith post u (nI j) (nI m) := by
  obtain ⟨m0, p0, d0, l0, r0, c0, k0, t0, a1, a2, a3, a4, a5, a6, a7, a8, a9, a10⟩ := u
  have v0 := v
  obtain ⟨rfl, hp, h1, D, hk, ht, F, hb⟩ := v
  have hM := D.2.1
  have hX := D.2.2.1
  unfold wpX_leastWith
  dsimp only
  refine ft_has hp hj (fun _ => br_f (by decide) (ft_isM hM (by omega) (fun _ => br_f (by decide) ?_) (fun t => absurd t (by omega)))) (fun z => absurd pj z)
  have xb := hX (3 * j + m) (by omega)
  rw [ft_ix, nI_clamp (show 3 * j + m < 2 ^ 31 by omega), h1 (3 * j + m) (by omega)]
  refine ⟨pk_in (3 * j + m) 15 (by omega), pk_eq (X (3 * j + m)) 0 (fun z => ?_) (fun z => ft_ask hM h1 hX (fun b2 h2 => ⟨pk_in j 5 hj, ?_⟩))⟩
  · refine H (-1) _ v0 (by omega) (Or.inl rfl) (fun e => ?_)
    have := (ft_F_b F hj pj).2
    rw [← e] at this
    omega
  · have om : ft_o0 M X j m = true := ft_o0_i.mpr ⟨hm, by omega⟩
    rw [nI_clamp (show j < 2 ^ 31 by omega)]
    refine nm_e (ft_totalOf (o := ft_on (ft_o0 M X) j m) (ft_bits_s hp) (ft_qn_mk (d := 0) (bo := ft_b0) D.1 hM h1 hX (fun i hi => ?_) (by omega) (Or.inl ⟨rfl, rfl⟩) (Or.inl ⟨rfl, rfl⟩)) (ft_cb_o D (by omega) (ft_on_s (fun _ _ _ z => z) om) (fun m => by rw [ft_b0_0]; omega)) ?_)
    · by_cases e : i = j
      · rw [e, pk_us]
        exact ft_bits_1 (by omega) (fun k hk => if_pos rfl)
      · rw [pk_un e]
        exact ft_bits_cg (h2 i hi) (fun k hk => ft_on_n e)
    · intro S r0' c0' a3' a4' a5' a6' a7' a8' a9' op bd
      have q := ft_q_with D F om op
      exact H (ft_r S) _ ⟨rfl, hp, h1, D, hk, ht, F, hb⟩ bd q.1 q.2
theorem ft_leastWithout {post : Int32 → St1 → Prop} {M : Nat} {X : Nat → Nat} {p : Nat → Bool} {lt : Int} {b : Nat → Nat} {u : St1} (v : ft_V M X p lt b u) {j : Nat} (hj : j < 5)
    (H1 : p j = true → ∀ (r : Int) (u' : St1), ft_V M X p lt b u' → -1 ≤ r ∧ r ≤ 100000 → r < lt → post (ft_Z r) u') (H0 : ¬ p j = true → post (-1) u) : wpX_leastWithout post u (nI j) := by
  obtain ⟨m0, p0, d0, l0, r0, c0, k0, t0, a1, a2, a3, a4, a5, a6, a7, a8, a9, a10⟩ := u
  obtain ⟨rfl, hp, h1, D, hk, ht, F, hb⟩ := v
  have hM := D.2.1
  have hM1 := D.1
  have hX := D.2.2.1
  unfold wpX_leastWithout
  dsimp only
  refine ft_has hp hj (fun pj => br_f (by decide) (ft_ask hM h1 hX (fun b2 h2 => ?_))) (fun pj => br_t rfl (H0 pj))
  refine ft_totalOf (p := ft_wo p j) (ft_bits_s (ft_bits_n hp hj (fun k hk => rfl))) (ft_qn_mk (d := 0) (bo := ft_b0) D.1 hM h1 hX h2 (by omega) (Or.inl ⟨rfl, rfl⟩) (Or.inl ⟨rfl, rfl⟩)) (ft_cb_o D (by omega) (fun _ _ _ z => z) (fun m => by rw [ft_b0_0]; omega)) ?_
  intro S r0' c0' a3' a4' a5' a6' a7' a8' a9' op bd
  exact H1 pj (ft_r S) _ ⟨rfl, hp, h1, D, hk, ht, F, hb⟩ bd (ft_q_wo D F hj pj op)
theorem ft_leastDoubled {post : Int32 → St1 → Prop} {M : Nat} {X : Nat → Nat} {p : Nat → Bool} {lt : Int} {b : Nat → Nat} {u : St1} (v : ft_V M X p lt b u) {m : Nat} (hm : m < M)
    (H : ∀ (r : Int) (u' : St1), ft_V M X p lt b u' → -1 ≤ r ∧ r ≤ 100000 → r ≤ lt → post (ft_Z r) u') : wpX_leastDoubled post u (nI m) := by
  obtain ⟨m0, p0, d0, l0, r0, c0, k0, t0, a1, a2, a3, a4, a5, a6, a7, a8, a9, a10⟩ := u
  obtain ⟨rfl, hp, h1, D, hk, ht, F, hb⟩ := v
  have hM := D.2.1
  have hX := D.2.2.1
  unfold wpX_leastDoubled
  dsimp only
  refine ft_isM hM (by omega) (fun _ => br_f (by decide) (ft_ask hM h1 hX (fun b2 h2 => ?_))) (fun t => absurd t (by omega))
  refine ft_totalOf (ft_bits_s hp) (ft_qn_mk (d := m) (bo := ft_b0) D.1 hM h1 hX h2 hm (Or.inr ⟨rfl, rfl⟩) (Or.inl ⟨rfl, rfl⟩)) (ft_cb_o D hm (fun _ _ _ z => z) (fun m => by rw [ft_b0_0]; omega)) ?_
  intro S r0' c0' a3' a4' a5' a6' a7' a8' a9' op bd
  exact H (ft_r S) _ ⟨rfl, hp, h1, D, hk, ht, F, hb⟩ bd (ft_q_dbl F op)
/-- no job for machine m -/
def ft_off (o : Nat → Nat → Bool) (m : Nat) : Nat → Nat → Bool := fun j k => if k = m then false else o j k
theorem ft_leastIdle {post : Int32 → St1 → Prop} {M : Nat} {X : Nat → Nat} {p : Nat → Bool} {lt : Int} {b : Nat → Nat} {u : St1} (v : ft_V M X p lt b u) {m : Nat} (hm : m < M)
    (H : ∀ (r : Int) (u' : St1), ft_V M X p lt b u' → -1 ≤ r ∧ r ≤ 100000 → (r = -1 ∨ lt ≤ r) → post (ft_Z r) u') : wpX_leastIdle post u (nI m) := by
  obtain ⟨m0, p0, d0, l0, r0, c0, k0, t0, a1, a2, a3, a4, a5, a6, a7, a8, a9, a10⟩ := u
  obtain ⟨rfl, hp, h1, D, hk, ht, F, hb⟩ := v
  have hM := D.2.1
  have hX := D.2.2.1
  unfold wpX_leastIdle
  dsimp only
  refine ft_isM hM (by omega) (fun _ => br_f (by decide) (ft_ask hM h1 hX (fun b2 h2 => ?_))) (fun t => absurd t (by omega))
  refine pk_loop (fun n j (y : Nat → Int32) => wX_leastIdle_16 post (nI m) (nI M) p0 (-1) (-1) r0 c0 k0 t0 n (nI j) a1 y a3 a4 a5 a6 a7 a8 a9 a10) (fun j y => ∀ i, i < 5 → ft_bits (y i) (if i < j then ft_off (ft_o0 M X) m i else ft_o0 M X i)) 5 0 b2 (by omega) (fun i hi => h2 i hi) ?_ ?_
  · intro n y h
    refine pk_le 5 5 (fun _ => ?_) (fun t => absurd t (by omega))
    have off : ∀ i k, i < 5 → ft_off (ft_o0 M X) m i k = true → ft_o0 M X i k = true := by
      intro i k hi z
      unfold ft_off at z
      by_cases e : k = m
      · rw [if_pos e] at z; exact absurd z (by decide)
      · rw [if_neg e] at z; exact z
    refine ft_totalOf (o := ft_off (ft_o0 M X) m) (ft_bits_s hp) (ft_qn_mk (d := 0) (bo := ft_b0) D.1 hM h1 hX (fun i hi => ?_) (by omega) (Or.inl ⟨rfl, rfl⟩) (Or.inl ⟨rfl, rfl⟩)) (ft_cb_o D (by omega) off (fun m => by rw [ft_b0_0]; omega)) ?_
    · have := h i hi
      rw [if_pos hi] at this
      exact this
    · intro S r0' c0' a3' a4' a5' a6' a7' a8' a9' op bd
      exact H (ft_r S) _ ⟨rfl, hp, h1, D, hk, ht, F, hb⟩ bd (ft_q_idle D F off op)
  · intro n j y hj h hw
    refine pk_le 5 j (fun t => absurd t (by omega)) (fun _ => ⟨pk_in j 5 hj, pk_in j 5 hj, ?_⟩)
    rw [nI_clamp (show j < 2 ^ 31 by omega)]
    refine nm_e (nm_r (nI_1 j) (hw _ (fun i hi => ?_)))
    by_cases e : i = j
    · have hh := h j hj
      rw [if_neg (by omega)] at hh
      rw [e, pk_us, if_pos (by omega)]
      exact ft_bits_b (ft_bits_n hh (by omega) (fun k hk => rfl))
    · rw [pk_un e]
      have hh := h i hi
      by_cases g : i < j
      · rw [if_pos g] at hh
        rw [if_pos (by omega)]
        exact hh
      · rw [if_neg g] at hh
        rw [if_neg (by omega)]
        exact hh
theorem ft_mostJobs {post : Int32 → St1 → Prop} {M : Nat} {X : Nat → Nat} {p : Nat → Bool} {lt : Int} {b : Nat → Nat} {u : St1} (v : ft_V M X p lt b u) {m : Nat} (hm : m < M)
    (H : ∀ (r : Int) (u' : St1), ft_V M X p lt b u' → -100000 ≤ r ∧ r ≤ 100000 → ft_n p b m 5 ≤ r → post (ft_Z r) u') : wpX_mostJobs post u (nI m) := by
  obtain ⟨m0, p0, d0, l0, r0, c0, k0, t0, a1, a2, a3, a4, a5, a6, a7, a8, a9, a10⟩ := u
  obtain ⟨rfl, hp, h1, D, hk, ht, F, hb⟩ := v
  have hM := D.2.1
  have hX := D.2.2.1
  unfold wpX_mostJobs
  dsimp only
  refine ft_isM hM (by omega) (fun _ => br_f (by decide) (ft_ask hM h1 hX (fun b2 h2 => ?_))) (fun t => absurd t (by omega))
  refine ft_match (ft_bits_s hp) (ft_qn_mk (d := 0) (bo := ft_b1 m) D.1 hM h1 hX h2 (by omega) (Or.inl ⟨rfl, rfl⟩) (Or.inr ⟨m, by omega, rfl, rfl⟩)) (ft_cb_o D (by omega) (fun _ _ _ z => z) (ft_b1_b m)) ?_
  intro S r0' c0' a3' a4' a5' a6' a7' a8' a9' op bd
  obtain ⟨s1, s2, s3⟩ := ft_q_most D F op
  have e : ((ft_Z S + 7) >>> ((3 : Int32) &&& 31)) * 8 - ft_Z S = ft_Z ((S + 7) / 8 * 8 - S) := by
    rw [ft_shr (by omega), ← ft_Z_sub, ← ft_Z_mul]
    rfl
  have t := H ((S + 7) / 8 * 8 - S) (nI M, p0, -1, nI m, r0', c0', k0, t0, a1, b2, a3', a4', a5', a6', a7', a8', a9', a10) ⟨rfl, hp, h1, D, hk, ht, F, hb⟩ (by omega) s3
  rw [← e] at t
  exact t
end
section
/-! the law's checks of a job and of a machine -/
theorem ft_Zm1 : ft_Z (-1) = -1 := by decide
theorem ft_j42 {post : Int32 → St1 → Prop} {M : Nat} {X : Nat → Nat} {p : Nat → Bool} {lt : Int} {b : Nat → Nat} {j : Nat} (hj : j < 5) (pj : p j = true) (H : ∀ u', ft_V M X p lt b u' → post 1 u') :
    ∀ (f k : Nat) (low : Int) (m0 p0 d0 l0 r0 c0 k0 t0 : Int32) (a1 a2 a3 a4 a5 a6 a7 a8 a9 a10 : Nat → Int32), ft_V M X p lt b (m0, p0, d0, l0, r0, c0, k0, t0, a1, a2, a3, a4, a5, a6, a7, a8, a9, a10) → M - k < f → k ≤ M → -1 ≤ low ∧ low ≤ 100000 → (low = -1 ∨ lt ≤ low) → (b j < k → low = lt) →
      wL_job_42 post (nI j) (nI M) (ft_Z lt) (nI (b j)) f (ft_Z low) (nI k) m0 p0 d0 l0 r0 c0 k0 t0 a1 a2 a3 a4 a5 a6 a7 a8 a9 a10 := by
  intro f
  induction f with
  | zero => intro k low m0 p0 d0 l0 r0 c0 k0 t0 a1 a2 a3 a4 a5 a6 a7 a8 a9 a10 v h; omega
  | succ f ih =>
    intro k low m0 p0 d0 l0 r0 c0 k0 t0 a1 a2 a3 a4 a5 a6 a7 a8 a9 a10 v hf hk lb lo lbj
    have F : ft_F M X p lt b := v.2.2.2.2.2.2.1
    have D : ft_D M X p := v.2.2.2.1
    have hM := D.2.1
    have bj := ft_F_b F hj pj
    have xb := D.2.2.1 (3 * j + b j) (by omega)
    have F0 := F.1
    have F1 := F.2.1
    refine pk_le M k (fun t => ?_) (fun t => ?_)
    · have lk := lbj (by omega)
      refine pk_le M (b j) (fun z => absurd z (by omega)) (fun _ => ft_time v hj pj bj.1 ?_)
      refine pk_le (X (3 * j + b j)) 0 (fun z => absurd z (by omega)) (fun _ => ft_leastWith v hj pj bj.1 ?_)
      rintro r ⟨m0', p0', d0', l0', r0', c0', k0', t0', a1', a2', a3', a4', a5', a6', a7', a8', a9', a10'⟩ v' rb _ re
      have re' := re rfl
      refine ft_eq r lt rfl rfl (by omega) (by omega) (fun _ => ?_) (fun z => absurd re' z)
      refine ft_eq low lt rfl rfl (by omega) (by omega) (fun _ => ft_leastWithout v' hj (fun _ => ?_) (fun z => absurd pj z)) (fun z => absurd lk z)
      rintro q ⟨m0'', p0'', d0'', l0'', r0'', c0'', k0'', t0'', a1'', a2'', a3'', a4'', a5'', a6'', a7'', a8'', a9'', a10''⟩ v'' qb ql
      exact ft_le lt q rfl rfl (by omega) (by omega) (fun z => absurd z (by omega)) (fun _ => H _ v'')
    · refine ft_leastWith v hj pj t ?_
      rintro r ⟨m0', p0', d0', l0', r0', c0', k0', t0', a1', a2', a3', a4', a5', a6', a7', a8', a9', a10'⟩ v' rb ro re
      refine ft_lt r 0 rfl rfl (by omega) (by omega) (fun z => nm_r (nI_1 k) (ih (k + 1) low _ _ _ _ _ _ _ _ _ _ _ _ _ _ _ _ _ _ v' (by omega) (by omega) lb lo (fun y => ?_))) (fun z => ft_lt low 0 rfl rfl (by omega) (by omega) (fun g => nm_r (nI_1 k) (ih (k + 1) r _ _ _ _ _ _ _ _ _ _ _ _ _ _ _ _ _ _ v' (by omega) (by omega) rb ro (fun y => ?_))) (fun g => ft_le low r rfl rfl (by omega) (by omega) (fun w => nm_r (nI_1 k) (ih (k + 1) low _ _ _ _ _ _ _ _ _ _ _ _ _ _ _ _ _ _ v' (by omega) (by omega) lb lo (fun y => ?_))) (fun w => nm_r (nI_1 k) (ih (k + 1) r _ _ _ _ _ _ _ _ _ _ _ _ _ _ _ _ _ _ v' (by omega) (by omega) rb ro (fun y => ?_)))))
      · by_cases e : k = b j
        · have := re e; omega
        · exact lbj (by omega)
      · by_cases e : k = b j
        · exact re e
        · have := lbj (by omega); omega
      · by_cases e : k = b j
        · have := re e; omega
        · exact lbj (by omega)
      · by_cases e : k = b j
        · exact re e
        · have := lbj (by omega); omega
theorem ft_job {post : Int32 → St1 → Prop} {M : Nat} {X : Nat → Nat} {p : Nat → Bool} {lt : Int} {b : Nat → Nat} {u : St1} (v : ft_V M X p lt b u) {j : Nat} (hj : j < 5) (H : ∀ u', ft_V M X p lt b u' → post 1 u') : wpL_job post u (nI j) (nI M) (ft_Z lt) := by
  obtain ⟨m0, p0, d0, l0, r0, c0, k0, t0, a1, a2, a3, a4, a5, a6, a7, a8, a9, a10⟩ := u
  unfold wpL_job
  dsimp only
  refine ft_machineOf v hj (fun pj => ?_) (fun pj => ?_)
  · have F : ft_F M X p lt b := v.2.2.2.2.2.2.1
    have D : ft_D M X p := v.2.2.2.1
    have hM := D.2.1
    have bj := ft_F_b F hj pj
    refine pk_le 0 (b j) (fun _ => ⟨M + 1, ?_⟩) (fun z => absurd z (by omega))
    exact ft_j42 hj pj H (M + 1) 0 (-1) _ _ _ _ _ _ _ _ _ _ _ _ _ _ _ _ _ _ v (by omega) (by omega) (by omega) (Or.inl rfl) (fun z => absurd z (by omega))
  · refine br_f (by decide) (ft_leastWithout v hj (fun z => absurd z pj) (fun _ => br_t rfl (ft_finishOf v hj (fun z => absurd z pj) (fun _ => br_t rfl (H _ v)))))
theorem ft_n_b (p : Nat → Bool) (b : Nat → Nat) (m : Nat) : ∀ n, 0 ≤ ft_n p b m n ∧ ft_n p b m n ≤ n := by
  intro n
  induction n with
  | zero => exact ⟨Int.le_refl _, Int.le_refl _⟩
  | succ n ih =>
    show 0 ≤ ft_n p b m n + (if p n = true then (ft_b1 m (b n) : Int) else 0) ∧ ft_n p b m n + (if p n = true then (ft_b1 m (b n) : Int) else 0) ≤ _
    have := ft_b1_b m (b n)
    by_cases z : p n = true
    · rw [if_pos z]; omega
    · rw [if_neg z]; omega
theorem ft_machine {post : Int32 → St1 → Prop} {M : Nat} {X : Nat → Nat} {p : Nat → Bool} {lt : Int} {b : Nat → Nat} {u : St1} (v : ft_V M X p lt b u) {m : Nat} (hm : m < M) (H : ∀ u', ft_V M X p lt b u' → post 1 u') : wpL_machine post u (nI m) (ft_Z lt) := by
  obtain ⟨m0, p0, d0, l0, r0, c0, k0, t0, a1, a2, a3, a4, a5, a6, a7, a8, a9, a10⟩ := u
  have F : ft_F M X p lt b := v.2.2.2.2.2.2.1
  have D : ft_D M X p := v.2.2.2.1
  have hM := D.2.1
  have F0 := F.1
  have F1 := F.2.1
  refine pk_loop (fun n j (x : Int) => wL_machine_5 post (nI m) (ft_Z lt) n (ft_Z x) (nI j) m0 p0 d0 l0 r0 c0 k0 t0 a1 a2 a3 a4 a5 a6 a7 a8 a9 a10) (fun j x => x = ft_n p b m j) 5 0 0 (by omega) rfl ?_ ?_
  · intro n x e
    have nb := ft_n_b p b m 5
    refine pk_le 5 5 (fun _ => ft_leastIdle v hm ?_) (fun t => absurd t (by omega))
    rintro r ⟨m0', p0', d0', l0', r0', c0', k0', t0', a1', a2', a3', a4', a5', a6', a7', a8', a9', a10'⟩ v' rb ro
    refine ft_leastDoubled v' hm ?_
    rintro q ⟨m0'', p0'', d0'', l0'', r0'', c0'', k0'', t0'', a1'', a2'', a3'', a4'', a5'', a6'', a7'', a8'', a9'', a10''⟩ v'' qb ql
    have go : wL_machine_63 post (nI m) (ft_Z x) m0'' p0'' d0'' l0'' r0'' c0'' k0'' t0'' a1'' a2'' a3'' a4'' a5'' a6'' a7'' a8'' a9'' a10'' := by
      unfold wL_machine_63
      refine ft_mostJobs v'' hm ?_
      rintro y ⟨m1, p1, d1, l1, r1, c1, k1, t1, z1, z2, z3, z4, z5, z6, z7, z8, z9, z10⟩ v3 yb yn
      exact ft_lt y x rfl rfl (by omega) (by omega) (fun z => absurd z (by omega)) (fun _ => H _ v3)
    refine ft_lt lt q rfl rfl (by omega) (by omega) (fun z => absurd z (by omega)) (fun _ => ft_eq r (-1) rfl ft_Zm1.symm (by omega) (by omega) (fun _ => go) (fun z => ft_lt r lt rfl rfl (by omega) (by omega) (fun y => absurd y (by omega)) (fun _ => go)))
  · intro n j x hj e hw
    refine pk_le 5 j (fun t => absurd t (by omega)) (fun _ => ft_machineOf v hj (fun pj => ?_) (fun pj => ?_))
    · have bj := ft_F_b F hj pj
      refine pk_eq (b j) m (fun z => nm_r (ft_Z_add x 1) (nm_r (nI_1 j) (hw _ ?_))) (fun z => nm_r (nI_1 j) (hw x ?_))
      · show x + 1 = ft_n p b m j + (if p j = true then (ft_b1 m (b j) : Int) else 0)
        unfold ft_b1
        rw [if_pos pj, if_pos z, ← e]
        rfl
      · show x = ft_n p b m j + (if p j = true then (ft_b1 m (b j) : Int) else 0)
        unfold ft_b1
        rw [if_pos pj, if_neg z, ← e]
        exact (Int.add_zero x).symm
    · refine br_f (fun z => ft_m1 m (by omega) z.symm) (nm_r (nI_1 j) (hw x ?_))
      show x = ft_n p b m j + (if p j = true then (ft_b1 m (b j) : Int) else 0)
      rw [if_neg pj, ← e, Int.add_zero]
end
section
/-! the walk of a turn: add, remove, setTime -/
theorem ft_isTime {Q : Int32 → Prop} {t : Nat} (ht : t < 16) (H : Q 1) : wpX_isTime Q () (nI t) :=
  pk_lt t 0 (fun z => absurd z (by omega)) (fun _ => pk_lt 15 t (fun z => absurd z (by omega)) (fun _ => H))
theorem ft_D_un {M : Nat} {X : Nat → Nat} {p : Nat → Bool} (D : ft_D M X p) {X' : Nat → Nat} {p' : Nat → Bool} {j : Nat} (hX : ∀ k, k < 15 → X' k ≤ 15) (hn : ∀ i m, i ≠ j → m < 3 → X' (3 * i + m) = X (3 * i + m)) (hj : p' j = true → ∃ m, m < M ∧ 0 < X' (3 * j + m)) (hp : ∀ i, i ≠ j → p' i = true → p i = true) : ft_D M X' p' := by
  refine ⟨D.1, D.2.1, hX, fun i hi pi => ?_⟩
  by_cases e : i = j
  · rw [e] at pi ⊢
    exact hj pi
  · obtain ⟨m, m1, m2⟩ := D.2.2.2 i hi (hp i e pi)
    refine ⟨m, m1, ?_⟩
    have := D.2.1
    rw [hn i m e (by omega)]
    exact m2
theorem ft_a68 {post : Int32 → St1 → Prop} {M : Nat} {X : Nat → Nat} {p : Nat → Bool} {m0 p0 d0 l0 r0 c0 k0 t0 : Int32} {a1 a2 a3 a4 a5 a6 a7 a8 a9 a10 : Nat → Int32} (h : ft_U M X p (m0, p0, d0, l0, r0, c0, k0, t0, a1, a2, a3, a4, a5, a6, a7, a8, a9, a10))
    {a b c : Nat} (ha : a < 16) (hb : b < 16) (hc : c < 16) (hs : ∃ m, m < M ∧ ((m = 0 ∧ 0 < a) ∨ (m = 1 ∧ 0 < b) ∨ (m = 2 ∧ 0 < c)))
    (H : ∀ (r : Int32) (X' : Nat → Nat) (p' : Nat → Bool) (u' : St1), ft_U M X' p' u' → post r u') :
    ∃ n, wX_add_68 post (nI a) (nI b) (nI c) m0 p0 d0 l0 r0 c0 k0 t0 a1 a2 a3 a4 a5 a6 a7 a8 a9 a10 n 0 := by
  have h0 := h
  obtain ⟨rfl, hp, h1, D, hk⟩ := h
  refine pk_loop (σ := Unit) (fun n j _ => wX_add_68 post (nI a) (nI b) (nI c) (nI M) p0 d0 l0 r0 c0 k0 t0 a1 a2 a3 a4 a5 a6 a7 a8 a9 a10 n (nI j)) (fun _ _ => True) 5 0 () (by omega) trivial ?_ ?_
  · intro n _ _
    exact pk_le 5 5 (fun _ => H _ X p _ h0) (fun t => absurd t (by omega))
  · intro n j _ hj _ hw
    refine pk_le 5 j (fun t => absurd t (by omega)) (fun _ => ft_has hp hj (fun pj => br_f (by decide) (nm_r (nI_1 j) (hw () trivial))) (fun pj => br_t rfl (nm_e ?_)))
    have e0 : nI j * 3 = nI (3 * j) := by
      have : nI j * 3 = nI (j * 3) := pk_mul j 3
      rw [this, Nat.mul_comm]
    have e1 : nI (3 * j) + 1 = nI (3 * j + 1) := nI_1 _
    have e2 : nI (3 * j) + 2 = nI (3 * j + 2) := nI_add (3 * j) 2
    rw [e0, e1, e2, nI_clamp (show 3 * j < 2 ^ 31 by omega), nI_clamp (show 3 * j + 1 < 2 ^ 31 by omega), nI_clamp (show 3 * j + 2 < 2 ^ 31 by omega), ft_by a (by omega), ft_by b (by omega), ft_by c (by omega)]
    refine ⟨pk_in (3 * j) 15 (by omega), nm_e ⟨pk_in (3 * j + 1) 15 (by omega), nm_e ⟨pk_in (3 * j + 2) 15 (by omega), nm_e ?_⟩⟩⟩
    have v0 : ft_un (ft_un (ft_un X (3 * j) a) (3 * j + 1) b) (3 * j + 2) c (3 * j) = a := by rw [ft_un_n (by omega), ft_un_n (by omega), ft_un_s]
    have v1 : ft_un (ft_un (ft_un X (3 * j) a) (3 * j + 1) b) (3 * j + 2) c (3 * j + 1) = b := by rw [ft_un_n (by omega), ft_un_s]
    have v2 : ft_un (ft_un (ft_un X (3 * j) a) (3 * j + 1) b) (3 * j + 2) c (3 * j + 2) = c := by rw [ft_un_s]
    have vn : ∀ k, k ≠ 3 * j → k ≠ 3 * j + 1 → k ≠ 3 * j + 2 → ft_un (ft_un (ft_un X (3 * j) a) (3 * j + 1) b) (3 * j + 2) c k = X k := fun k g0 g1 g2 => by rw [ft_un_n g2, ft_un_n g1, ft_un_n g0]
    refine H _ (ft_un (ft_un (ft_un X (3 * j) a) (3 * j + 1) b) (3 * j + 2) c) (fun k => p k || decide (k = j)) _ ⟨rfl, ft_bits_or hp hj (fun k _ => rfl), ft_an_u (ft_an_u (ft_an_u h1 rfl) rfl) rfl, ft_D_un (j := j) D (fun k hk => ?_) (fun i m ne hm => ?_) (fun _ => ?_) (fun i ne z => ?_), Or.inl rfl⟩
    · by_cases g0 : k = 3 * j
      · rw [g0, v0]; omega
      · by_cases g1 : k = 3 * j + 1
        · rw [g1, v1]; omega
        · by_cases g2 : k = 3 * j + 2
          · rw [g2, v2]; omega
          · rw [vn k g0 g1 g2]; exact D.2.2.1 k hk
    · exact vn _ (by omega) (by omega) (by omega)
    · obtain ⟨m, m1, m2⟩ := hs
      refine ⟨m, m1, ?_⟩
      rcases m2 with ⟨e, g⟩ | ⟨e, g⟩ | ⟨e, g⟩
      · rw [show 3 * j + m = 3 * j by omega, v0]; exact g
      · rw [e, v1]; exact g
      · rw [e, v2]; exact g
    · have z' : (p i || decide (i = j)) = true := z
      rw [decide_eq_false ne, Bool.or_false] at z'
      exact z'
theorem ft_a28 {post : Int32 → St1 → Prop} {M : Nat} {X : Nat → Nat} {p : Nat → Bool} {m0 p0 d0 l0 r0 c0 k0 t0 : Int32} {a1 a2 a3 a4 a5 a6 a7 a8 a9 a10 : Nat → Int32} (h : ft_U M X p (m0, p0, d0, l0, r0, c0, k0, t0, a1, a2, a3, a4, a5, a6, a7, a8, a9, a10))
    {a b c : Nat} (ha : a < 16) (hb : b < 16) (hc : c < 16) (hb1 : M ≤ 1 → b = 0) (hc2 : M ≤ 2 → c = 0)
    (H : ∀ (r : Int32) (X' : Nat → Nat) (p' : Nat → Bool) (u' : St1), ft_U M X' p' u' → post r u') :
    wX_add_28 post (nI a) (nI b) (nI c) m0 p0 d0 l0 r0 c0 k0 t0 a1 a2 a3 a4 a5 a6 a7 a8 a9 a10 := by
  unfold wX_add_28
  refine ft_isTime ha (br_f (by decide) (ft_isTime hb (br_f (by decide) (ft_isTime hc (br_f (by decide) (br_c (fun _ => H _ X p _ h) (fun z => ft_a68 h ha hb hc ?_ H)))))))
  have M1 : 1 ≤ M := h.2.2.2.1.1
  by_cases ea : a = 0
  · by_cases eb : b = 0
    · by_cases ec : c = 0
      · rw [ea, eb, ec] at z
        exact absurd (by decide) z
      · exact ⟨2, by omega, Or.inr (Or.inr ⟨rfl, by omega⟩)⟩
    · exact ⟨1, by omega, Or.inr (Or.inl ⟨rfl, by omega⟩)⟩
  · exact ⟨0, by omega, Or.inl ⟨rfl, by omega⟩⟩
theorem ft_add {post : Int32 → St1 → Prop} {M : Nat} {X : Nat → Nat} {p : Nat → Bool} {u : St1} (h : ft_U M X p u) {a b c : Nat} (ha : a < 16) (hb : b < 16) (hc : c < 16)
    (H : ∀ (r : Int32) (X' : Nat → Nat) (p' : Nat → Bool) (u' : St1), ft_U M X' p' u' → post r u') : wpX_add post u (nI a) (nI b) (nI c) := by
  obtain ⟨m0, p0, d0, l0, r0, c0, k0, t0, a1, a2, a3, a4, a5, a6, a7, a8, a9, a10⟩ := u
  have e : m0 = nI M := h.1
  have hM : M ≤ 3 := h.2.2.2.1.2.1
  have s13 : ∀ b', b' < 16 → (M ≤ 1 → b' = 0) → wX_add_13 post (nI a) (nI c) (nI b') m0 p0 d0 l0 r0 c0 k0 t0 a1 a2 a3 a4 a5 a6 a7 a8 a9 a10 := by
    intro b' hb' h1
    exact pk_le M 2 (fun t => ft_a28 (c := 0) h ha hb' (by omega) h1 (fun _ => rfl) H) (fun t => ft_a28 h ha hb' hc h1 (fun z => absurd z (by omega)) H) (hx := e)
  exact pk_le M 1 (fun t => s13 0 (by omega) (fun _ => rfl)) (fun t => s13 b hb (fun z => absurd z (by omega))) (hx := e)
theorem ft_remove {post : Int32 → St1 → Prop} {M : Nat} {X : Nat → Nat} {p : Nat → Bool} {u : St1} (h : ft_U M X p u) {j : Nat} (hj : j < 5)
    (H : ∀ (r : Int32) (X' : Nat → Nat) (p' : Nat → Bool) (u' : St1), ft_U M X' p' u' → post r u') : wpX_remove post u (nI j) := by
  obtain ⟨m0, p0, d0, l0, r0, c0, k0, t0, a1, a2, a3, a4, a5, a6, a7, a8, a9, a10⟩ := u
  have h0 := h
  obtain ⟨rfl, hp, h1, D, hk⟩ := h
  unfold wpX_remove
  dsimp only
  refine ft_has hp hj (fun pj => br_f (by decide) (nm_e (H _ X (ft_wo p j) _ ⟨rfl, ft_bits_n hp hj (fun k hk => rfl), h1, ft_D_un (j := j) D D.2.2.1 (fun _ _ _ _ => rfl) (fun z => absurd rfl (ft_wo_i.mp z).1) (fun i _ z => (ft_wo_i.mp z).2), Or.inl rfl⟩))) (fun pj => br_t rfl (H _ X p _ h0))
theorem ft_setTime {post : Int32 → St1 → Prop} {M : Nat} {X : Nat → Nat} {p : Nat → Bool} {u : St1} (h : ft_U M X p u) {j m t : Nat} (hj : j < 5) (hm : m < 3) (ht : t < 16)
    (H : ∀ (r : Int32) (X' : Nat → Nat) (p' : Nat → Bool) (u' : St1), ft_U M X' p' u' → post r u') : wpX_setTime post u (nI j) (nI m) (nI t) := by
  obtain ⟨m0, p0, d0, l0, r0, c0, k0, t0, a1, a2, a3, a4, a5, a6, a7, a8, a9, a10⟩ := u
  have h0 := h
  obtain ⟨rfl, hp, h1, D, hk⟩ := h
  have hM := D.2.1
  unfold wpX_setTime
  dsimp only
  refine ft_has hp hj (fun pj => br_f (by decide) (ft_isM hM (by omega) (fun mM => br_f (by decide) (ft_isTime ht (br_f (by decide) ?_))) (fun _ => br_t rfl (H _ X p _ h0)))) (fun pj => br_t rfl (H _ X p _ h0))
  have xb := D.2.2.1 (3 * j + m) (by omega)
  rw [ft_ix, nI_clamp (show 3 * j + m < 2 ^ 31 by omega), ft_by t (by omega), h1 (3 * j + m) (by omega)]
  have hX' : ∀ k, k < 15 → ft_un X (3 * j + m) t k ≤ 15 := by
    intro k hk
    by_cases e : k = 3 * j + m
    · rw [e, ft_un_s]; omega
    · rw [ft_un_n e]; exact D.2.2.1 k hk
  refine ⟨pk_in (3 * j + m) 15 (by omega), nm_e ⟨pk_in (3 * j + m) 15 (by omega), nm_e (ft_able hM (ft_an_u h1 rfl) hX' hj (fun x hx => br_c (fun _ => ⟨pk_in (3 * j + m) 15 (by omega), nm_e ?_⟩) (fun z => ?_)))⟩⟩
  · rw [ft_by _ (by omega)]
    have bk : ft_an 15 (upd (upd a1 (3 * j + m) (nI t)) (3 * j + m) (nI (X (3 * j + m)))) X := by
      intro k hk
      by_cases e : k = 3 * j + m
      · rw [e, pk_us]
      · rw [pk_un e, pk_un e]; exact h1 k hk
    refine H _ X p _ ⟨rfl, hp, bk, D, ?_⟩
    rcases hk with z | ⟨lt, b, z⟩
    · exact Or.inl z
    · exact Or.inr ⟨lt, b, rfl, hp, bk, D, z.2.2.2.2⟩
  · refine H _ (ft_un X (3 * j + m) t) p _ ⟨rfl, hp, ft_an_u h1 rfl, ft_D_un (j := j) D hX' (fun i m' ne hm' => ft_un_n (by omega)) (fun _ => ?_) (fun _ _ y => y), Or.inl rfl⟩
    obtain ⟨m', _, e⟩ := ft_bits_z hx z
    exact ⟨m', ft_o0_i.mp e⟩
theorem ft_turn {post : St1 → Prop} {M : Nat} {X : Nat → Nat} {p : Nat → Bool} {u : St1} (h : ft_U M X p u) (w x y : Int32)
    (H : ∀ (X' : Nat → Nat) (p' : Nat → Bool) (u' : St1), ft_U M X' p' u' → post u') : wpL_turn post u w x y := by
  obtain ⟨m0, p0, d0, l0, r0, c0, k0, t0, a1, a2, a3, a4, a5, a6, a7, a8, a9, a10⟩ := u
  obtain ⟨a, ha, ea⟩ := pk_andE x (m := 15) 4 (by decide)
  obtain ⟨b, hb, eb⟩ := pk_andE (x >>> ((4 : Int32) &&& 31)) (m := 15) 4 (by decide)
  obtain ⟨c, hc, ec⟩ := pk_andE (x >>> ((8 : Int32) &&& 31)) (m := 15) 4 (by decide)
  obtain ⟨j, hj, ej⟩ := pk_andE y (m := 255) 8 (by decide)
  obtain ⟨k, hk, ek⟩ := pk_andE (y >>> ((8 : Int32) &&& 31)) (m := 255) 8 (by decide)
  have e5 : (y &&& 255) - (y &&& 255) / 5 * 5 = nI (j % 5) := by
    rw [ej]
    exact pk_rem (d := 5) (by omega) (by omega) (by omega)
  have e3 : ((y >>> ((8 : Int32) &&& 31)) &&& 255) - ((y >>> ((8 : Int32) &&& 31)) &&& 255) / 3 * 3 = nI (k % 3) := by
    rw [ek]
    exact pk_rem (d := 3) (by omega) (by omega) (by omega)
  refine nm_r ea (nm_r eb (nm_r ec ?_))
  rw [e5, e3]
  refine br_c (fun _ => br_c (fun _ => ⟨by decide, by decide, ft_setTime h (by omega) (by omega) ha ?_⟩) (fun _ => ⟨by decide, ft_remove h (by omega) ?_⟩)) (fun _ => ft_add h ha hb hc ?_)
  all_goals
    rintro r X' p' ⟨m0', p0', d0', l0', r0', c0', k0', t0', a1', a2', a3', a4', a5', a6', a7', a8', a9', a10'⟩ h'
    exact H X' p' _ h'
end
section
/-! the law -/
theorem ft_fs_b {p : Nat → Bool} {b x : Nat → Nat} (hx : ∀ i, i < 5 → p i = true → x i ≤ 15) : ∀ n, n ≤ 5 → 0 ≤ ft_fs p b x n ∧ ft_fs p b x n ≤ 75 * n := by
  intro n
  induction n with
  | zero => intro _; exact ⟨Int.le_refl _, Int.le_refl _⟩
  | succ n ih =>
    intro h
    have i := ih (by omega)
    have f := ft_fb (b := b) hx n 5 (by omega)
    show 0 ≤ ft_fs p b x n + (if p n = true then ft_fj p b x n 5 else 0) ∧ ft_fs p b x n + (if p n = true then ft_fj p b x n 5 else 0) ≤ _
    by_cases z : p n = true
    · rw [if_pos z]; omega
    · rw [if_neg z]; omega
theorem ft_w135 {post : Int32 → Prop} {L : Nat} {xs : Nat → Int32} {J : Int32 → Int32 → Int32 → Int32 → Int32 → Int32 → Int32 → Int32 → Int32 → (Nat → Int32) → (Nat → Int32) → (Nat → Int32) → (Nat → Int32) → (Nat → Int32) → (Nat → Int32) → (Nat → Int32) → (Nat → Int32) → (Nat → Int32) → (Nat → Int32) → Prop} {x3 : Int32} {kc ks : Nat} {M : Nat} {X : Nat → Nat} {p : Nat → Bool} {lt : Int} {b : Nat → Nat}
    (H : ∀ (m0 p0 d0 l0 r0 c0 k0 t0 : Int32) (a1 a2 a3 a4 a5 a6 a7 a8 a9 a10 : Nat → Int32), ft_V M X p lt b (m0, p0, d0, l0, r0, c0, k0, t0, a1, a2, a3, a4, a5, a6, a7, a8, a9, a10) → J (x3 + 3) m0 p0 d0 l0 r0 c0 k0 t0 a1 a2 a3 a4 a5 a6 a7 a8 a9 a10) :
    ∀ (f m : Nat) (m0 p0 d0 l0 r0 c0 k0 t0 : Int32) (a1 a2 a3 a4 a5 a6 a7 a8 a9 a10 : Nat → Int32), M - m < f → m ≤ M → ft_V M X p lt b (m0, p0, d0, l0, r0, c0, k0, t0, a1, a2, a3, a4, a5, a6, a7, a8, a9, a10) →
      wL_law_135 post L xs J (nI M) x3 (ft_Z lt) kc ks f (nI m) m0 p0 d0 l0 r0 c0 k0 t0 a1 a2 a3 a4 a5 a6 a7 a8 a9 a10 := by
  intro f
  induction f with
  | zero => intro m m0 p0 d0 l0 r0 c0 k0 t0 a1 a2 a3 a4 a5 a6 a7 a8 a9 a10 h; omega
  | succ f ih =>
    intro m m0 p0 d0 l0 r0 c0 k0 t0 a1 a2 a3 a4 a5 a6 a7 a8 a9 a10 hf hm v
    have D : ft_D M X p := v.2.2.2.1
    have hM := D.2.1
    refine pk_le M m (fun _ => nm_e (H _ _ _ _ _ _ _ _ _ _ _ _ _ _ _ _ _ _ v)) (fun t => ft_machine v t ?_)
    rintro ⟨m0', p0', d0', l0', r0', c0', k0', t0', a1', a2', a3', a4', a5', a6', a7', a8', a9', a10'⟩ v'
    exact br_f (by decide) (nm_r (nI_1 m) (ih (m + 1) _ _ _ _ _ _ _ _ _ _ _ _ _ _ _ _ _ _ (by omega) (by omega) v'))
theorem ft_w72 {post : Int32 → Prop} {L : Nat} {xs : Nat → Int32} {J : Int32 → Int32 → Int32 → Int32 → Int32 → Int32 → Int32 → Int32 → Int32 → (Nat → Int32) → (Nat → Int32) → (Nat → Int32) → (Nat → Int32) → (Nat → Int32) → (Nat → Int32) → (Nat → Int32) → (Nat → Int32) → (Nat → Int32) → (Nat → Int32) → Prop} {x3 : Int32} {kc ks : Nat} {M : Nat} {X : Nat → Nat} {p : Nat → Bool} {lt : Int} {b : Nat → Nat}
    (H : ∀ (m0 p0 d0 l0 r0 c0 k0 t0 : Int32) (a1 a2 a3 a4 a5 a6 a7 a8 a9 a10 : Nat → Int32), ft_V M X p lt b (m0, p0, d0, l0, r0, c0, k0, t0, a1, a2, a3, a4, a5, a6, a7, a8, a9, a10) → J (x3 + 3) m0 p0 d0 l0 r0 c0 k0 t0 a1 a2 a3 a4 a5 a6 a7 a8 a9 a10) :
    ∀ (f j : Nat) (y : Int) (m0 p0 d0 l0 r0 c0 k0 t0 : Int32) (a1 a2 a3 a4 a5 a6 a7 a8 a9 a10 : Nat → Int32), 5 - j < f → j ≤ 5 → y = ft_fs p b (fun i => X (3 * i + b i)) j → ft_V M X p lt b (m0, p0, d0, l0, r0, c0, k0, t0, a1, a2, a3, a4, a5, a6, a7, a8, a9, a10) →
      wL_law_72 post L xs J (nI M) x3 (ft_Z lt) kc ks f (ft_Z y) (nI j) m0 p0 d0 l0 r0 c0 k0 t0 a1 a2 a3 a4 a5 a6 a7 a8 a9 a10 := by
  intro f
  induction f with
  | zero => intro j y m0 p0 d0 l0 r0 c0 k0 t0 a1 a2 a3 a4 a5 a6 a7 a8 a9 a10 h; omega
  | succ f ih =>
    intro j y m0 p0 d0 l0 r0 c0 k0 t0 a1 a2 a3 a4 a5 a6 a7 a8 a9 a10 hf hj ey v
    have F : ft_F M X p lt b := v.2.2.2.2.2.2.1
    have D : ft_D M X p := v.2.2.2.1
    have hM := D.2.1
    have F0 := F.1
    have F1 := F.2.1
    have hx : ∀ i, i < 5 → p i = true → (fun i => X (3 * i + b i)) i ≤ 15 := fun i hi pi => D.2.2.1 (3 * i + b i) (by have := (ft_F_b F hi pi).1; omega)
    have yb := ft_fs_b (b := b) hx j hj
    refine pk_le 5 j (fun t => ?_) (fun t => ?_)
    · have e : j = 5 := by omega
      subst e
      have sm := ft_fs_F F
      refine ft_eq y lt rfl rfl (by omega) (by omega) (fun _ => ⟨M + 1, ?_⟩) (fun z => absurd (ey.trans sm) z)
      exact ft_w135 H (M + 1) 0 _ _ _ _ _ _ _ _ _ _ _ _ _ _ _ _ _ _ (by omega) (by omega) v
    · have go : ∀ (y' : Int) (r0' : Int32), y' = ft_fs p b (fun i => X (3 * i + b i)) (j + 1) → r0' = ft_Z y' → wL_law_101 post L xs J (wL_law_72 post L xs J (nI M) x3 (ft_Z lt) kc ks f) (nI M) x3 (ft_Z lt) (nI j) r0' kc ks m0 p0 d0 l0 r0 c0 k0 t0 a1 a2 a3 a4 a5 a6 a7 a8 a9 a10 := by
        intro y' r0' e' er
        subst er
        unfold wL_law_101
        refine ft_job v t ?_
        rintro ⟨m0', p0', d0', l0', r0', c0', k0', t0', a1', a2', a3', a4', a5', a6', a7', a8', a9', a10'⟩ v'
        exact br_f (by decide) (nm_r (nI_1 j) (ih (j + 1) y' _ _ _ _ _ _ _ _ _ _ _ _ _ _ _ _ _ _ (by omega) (by omega) e' v'))
      refine ft_finishOf v t (fun pj => ?_) (fun pj => ?_)
      · have fb := ft_fb (b := b) hx j 5 (by omega)
        have st : ft_fs p b (fun i => X (3 * i + b i)) (j + 1) = y + ft_fj p b (fun i => X (3 * i + b i)) j 5 := by
          show ft_fs p b (fun i => X (3 * i + b i)) j + (if p j = true then ft_fj p b (fun i => X (3 * i + b i)) j 5 else 0) = _
          rw [if_pos pj, ← ey]
        refine ft_le (ft_fj p b (fun i => X (3 * i + b i)) j 5) 0 rfl rfl (by omega) (by omega) (fun z => go y _ (by omega) rfl) (fun z => go _ _ st.symm (ft_Z_add _ _))
      · refine br_t (by decide) (go y _ ?_ rfl)
        show y = ft_fs p b (fun i => X (3 * i + b i)) j + (if p j = true then ft_fj p b (fun i => X (3 * i + b i)) j 5 else 0)
        rw [if_neg pj, ← ey, Int.add_zero]
theorem ft_V_U {M : Nat} {X : Nat → Nat} {p : Nat → Bool} {lt : Int} {b : Nat → Nat} {u : St1} (v : ft_V M X p lt b u) : ft_U M X p u := by
  obtain ⟨m0, p0, d0, l0, r0, c0, k0, t0, a1, a2, a3, a4, a5, a6, a7, a8, a9, a10⟩ := u
  exact ⟨v.1, v.2.1, v.2.2.1, v.2.2.2.1, Or.inr ⟨lt, b, v⟩⟩
theorem ft_w32 {L : Nat} {xs : Nat → Int32} {kc ks : Nat} {M : Nat} (hL : L ≤ 260) :
    ∀ (f i : Nat) (X : Nat → Nat) (p : Nat → Bool) (m0 p0 d0 l0 r0 c0 k0 t0 : Int32) (a1 a2 a3 a4 a5 a6 a7 a8 a9 a10 : Nat → Int32), L - i < f → i ≤ 1000 → ft_U M X p (m0, p0, d0, l0, r0, c0, k0, t0, a1, a2, a3, a4, a5, a6, a7, a8, a9, a10) →
      wL_law_32 (fun r => r = 1) L xs (nI M) kc ks f (nI i) m0 p0 d0 l0 r0 c0 k0 t0 a1 a2 a3 a4 a5 a6 a7 a8 a9 a10 := by
  intro f
  induction f with
  | zero => intro i X p m0 p0 d0 l0 r0 c0 k0 t0 a1 a2 a3 a4 a5 a6 a7 a8 a9 a10 h; omega
  | succ f ih =>
    intro i X p m0 p0 d0 l0 r0 c0 k0 t0 a1 a2 a3 a4 a5 a6 a7 a8 a9 a10 hf hi h
    have e2 : nI i + 2 = nI (i + 2) := nI_add i 2
    refine pk_le L (i + 2) (fun _ => rfl) (fun t => ⟨pk_in i L (by omega), pk_in (i + 1) L (by omega) (hx := nI_1 i), pk_in (i + 2) L (by omega) (hx := e2), ft_turn h _ _ _ ?_⟩) (hy := e2)
    rintro X' p' ⟨m0', p0', d0', l0', r0', c0', k0', t0', a1', a2', a3', a4', a5', a6', a7', a8', a9', a10'⟩ h'
    refine ft_least h' ?_
    rintro lt b ⟨m1, p1, d1, l1, r1, c1, k1, t1, z1, z2, z3, z4, z5, z6, z7, z8, z9, z10⟩ v
    refine ⟨6, ft_w72 (lt := lt) ?_ 6 0 0 _ _ _ _ _ _ _ _ _ _ _ _ _ _ _ _ _ _ (by omega) (by omega) rfl v⟩
    intro m2 p2 d2 l2 r2 c2 k2 t2 y1 y2 y3 y4 y5 y6 y7 y8 y9 y10 v2
    have e3 : nI i + 3 = nI (i + 3) := nI_add i 3
    rw [e3]
    exact ih (i + 3) X' p' _ _ _ _ _ _ _ _ _ _ _ _ _ _ _ _ _ _ (by omega) (by omega) (ft_V_U v2)
theorem ft_w20 {L : Nat} {xs : Nat → Int32} {M : Nat} (hL : L ≤ 260) (hM1 : 1 ≤ M) (hM : M ≤ 3) : wL_law_20 (fun r => r = 1) L xs (nI M) 0 0 := by
  refine ⟨by omega, by omega, 10, 157, by omega, by omega, ?_⟩
  refine ⟨by omega, by omega, by omega, by omega, by omega, by omega, by omega, by omega, by omega, by omega, by omega, by omega, by omega, by omega, by omega, by omega, by omega, by omega, by omega, by omega, ?_⟩
  refine pk_le 1 M (fun _ => pk_le M 3 (fun _ => ⟨L + 1, ?_⟩) (fun t => absurd t (by omega))) (fun t => absurd t (by omega))
  refine ft_w32 hL (L + 1) 1 (fun _ => 0) (fun _ => false) _ _ _ _ _ _ _ _ _ _ _ _ _ _ _ _ _ _ (by omega) (by omega) ⟨rfl, ft_bits_0 (fun _ _ => rfl), fun k _ => rfl, ⟨hM1, hM, fun _ _ => Nat.zero_le 15, fun j _ z => absurd (show false = true from z) (by decide)⟩, Or.inl rfl⟩
theorem i_vc (xs : Nat → Int32) (L : Nat) (hL : L ≤ 260) : wpL_law (fun r => r = 1) L xs := by
  obtain ⟨k, hk, ek⟩ := pk_andE (xs (0 : Int32).toNatClampNeg) (m := 255) 8 (by decide)
  have e3 : 1 + (((xs (0 : Int32).toNatClampNeg) &&& 255) - ((xs (0 : Int32).toNatClampNeg) &&& 255) / 3 * 3) = nI (1 + k % 3) := by
    rw [ek]
    have : nI k - nI k / 3 * 3 = nI (k % 3) := pk_rem (d := 3) (by omega) (by omega) (by omega)
    rw [this]
    exact nI_add 1 (k % 3)
  unfold wpL_law
  rw [e3]
  exact pk_le L 0 (fun _ => ft_w20 hL (M := 2) (by omega) (by omega)) (fun t => ⟨pk_in 0 L t, by decide, ft_w20 hL (by omega) (by omega)⟩)
end
