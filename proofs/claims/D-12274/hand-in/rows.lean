section
/-! counting over the columns, prefix sums over the slots (a slot: one tag entry) -/
/-- how many of the first e places hold 0 -/
def ds_z (a : Nat → Int32) : Nat → Nat
  | 0 => 0
  | e + 1 => if a e = 0 then ds_z a e + 1 else ds_z a e
/-- the group's number behind the first e entries -/
def ds_g (a : Nat → Int32) : Nat → Nat
  | 0 => 0
  | e + 1 => if a e = 0 then 0 else if a e = 1 then ds_g a e + 1 else ds_g a e
/-- how many of the first e places hold 2 -/
def ds_t (a : Nat → Int32) : Nat → Nat
  | 0 => 0
  | e + 1 => if a e = 2 then ds_t a e + 1 else ds_t a e
/-- where the value entries of slot j begin -/
def ds_S (nv : Nat → Nat) : Nat → Nat
  | 0 => 0
  | j + 1 => ds_S nv j + max 1 (nv j)
/-- where the values of slot j begin -/
def ds_P (nv : Nat → Nat) : Nat → Nat
  | 0 => 0
  | j + 1 => ds_P nv j + nv j
/-- the columns: R records (E of them ended) over T slots, the value column holds U slots; record r takes the slots b r .. b (r + 1) - 1; slot j has nv j values -/
def ds_Q (E R T U : Nat) (b nv : Nat → Nat) (a3 a4 a6 a7 : Nat → Int32) : Prop :=
  b 0 = 0 ∧ b R = T ∧ E ≤ R ∧ b E ≤ U ∧ U ≤ T ∧ T ≤ 52 ∧ ds_P nv T ≤ 60 ∧ ds_t a4 T ≤ 40 ∧
  (∀ r, r < R → b r < b (r + 1) ∧ b (r + 1) ≤ b r + 4 ∧ a3 (b r) = 0 ∧ (∀ j, b r < j → j < b (r + 1) → a3 j = 1) ∧ (a4 (b r) = 0 → b (r + 1) = b r + 1 ∧ nv (b r) = 0)) ∧
  (∀ j, j < T → nv j ≤ 4) ∧
  (∀ j, j < U → a6 (ds_S nv j) = a3 j ∧ (∀ k, 0 < k → k < nv j → a6 (ds_S nv j + k) = 2) ∧ (∀ k, k < nv j → a7 (ds_S nv j + k) = 2) ∧ (nv j = 0 → a7 (ds_S nv j) = 0 ∨ a7 (ds_S nv j) = 1))
theorem ds_down {P : Nat → Prop} {m : Nat} (hm : P m) (hs : ∀ i, i < m → P (i + 1) → P i) : ∀ i, i ≤ m → P i := by
  have key : ∀ d i, i + d = m → P i := by
    intro d
    induction d with
    | zero =>
      intro i h
      have e : i = m := by omega
      rw [e]
      exact hm
    | succ d ih =>
      intro i h
      exact hs i (by omega) (ih (i + 1) (by omega))
  intro i hi
  exact key (m - i) i (by omega)
theorem ds_z_s1 {a : Nat → Int32} {e : Nat} (h : a e = 0) : ds_z a (e + 1) = ds_z a e + 1 := by
  simp only [ds_z]
  rw [if_pos h]
theorem ds_z_s0 {a : Nat → Int32} {e : Nat} (h : ¬ a e = 0) : ds_z a (e + 1) = ds_z a e := by
  simp only [ds_z]
  rw [if_neg h]
theorem ds_g_s0 {a : Nat → Int32} {e : Nat} (h : a e = 0) : ds_g a (e + 1) = 0 := by
  simp only [ds_g]
  rw [if_pos h]
theorem ds_g_s1 {a : Nat → Int32} {e : Nat} (h : a e = 1) : ds_g a (e + 1) = ds_g a e + 1 := by
  simp only [ds_g]
  rw [if_neg (by rw [h]; decide), if_pos h]
theorem ds_g_s2 {a : Nat → Int32} {e : Nat} (h : a e = 2) : ds_g a (e + 1) = ds_g a e := by
  simp only [ds_g]
  rw [if_neg (by rw [h]; decide), if_neg (by rw [h]; decide)]
theorem ds_t_s1 {a : Nat → Int32} {e : Nat} (h : a e = 2) : ds_t a (e + 1) = ds_t a e + 1 := by
  simp only [ds_t]
  rw [if_pos h]
theorem ds_t_s0 {a : Nat → Int32} {e : Nat} (h : ¬ a e = 2) : ds_t a (e + 1) = ds_t a e := by
  simp only [ds_t]
  rw [if_neg h]
theorem ds_up {f : Nat → Nat} (hs : ∀ i, f i ≤ f (i + 1)) {i j : Nat} (h : i ≤ j) : f i ≤ f j := by
  induction j with
  | zero =>
    have e : i = 0 := by omega
    rw [e]
    exact Nat.le_refl _
  | succ j ih =>
    rcases Nat.lt_or_ge j i with z | z
    · have e : i = j + 1 := by omega
      rw [e]
      exact Nat.le_refl _
    · exact Nat.le_trans (ih z) (hs j)
theorem ds_z_mono (a : Nat → Int32) {i j : Nat} (h : i ≤ j) : ds_z a i ≤ ds_z a j :=
  ds_up (fun i => by
    by_cases e : a i = 0
    · rw [ds_z_s1 e]; omega
    · rw [ds_z_s0 e]; omega) h
theorem ds_t_mono (a : Nat → Int32) {i j : Nat} (h : i ≤ j) : ds_t a i ≤ ds_t a j :=
  ds_up (fun i => by
    by_cases e : a i = 2
    · rw [ds_t_s1 e]; omega
    · rw [ds_t_s0 e]; omega) h
theorem ds_P_mono (nv : Nat → Nat) {i j : Nat} (h : i ≤ j) : ds_P nv i ≤ ds_P nv j :=
  ds_up (fun i => by simp only [ds_P]; omega) h
theorem ds_S_mono (nv : Nat → Nat) {i j : Nat} (h : i ≤ j) : ds_S nv i ≤ ds_S nv j :=
  ds_up (fun i => by simp only [ds_S]; omega) h
theorem ds_z_le (a : Nat → Int32) (j : Nat) : ds_z a j ≤ j := by
  induction j with
  | zero => exact Nat.le_refl _
  | succ j ih =>
    by_cases e : a j = 0
    · rw [ds_z_s1 e]; omega
    · rw [ds_z_s0 e]; omega
theorem ds_g_le (a : Nat → Int32) (j : Nat) : ds_g a j ≤ j := by
  induction j with
  | zero => exact Nat.le_refl _
  | succ j ih =>
    simp only [ds_g]
    split
    · omega
    · split
      · omega
      · omega
theorem ds_t_le (a : Nat → Int32) (j : Nat) : ds_t a j ≤ j := by
  induction j with
  | zero => exact Nat.le_refl _
  | succ j ih =>
    by_cases e : a j = 2
    · rw [ds_t_s1 e]; omega
    · rw [ds_t_s0 e]; omega
theorem ds_S_le (nv : Nat → Nat) (j : Nat) : ds_S nv j ≤ ds_P nv j + j := by
  induction j with
  | zero => exact Nat.le_refl _
  | succ j ih =>
    simp only [ds_S, ds_P]
    omega
theorem ds_S_loc (nv : Nat → Nat) : ∀ (s e : Nat), e < ds_S nv s → ∃ j k, j < s ∧ k < max 1 (nv j) ∧ e = ds_S nv j + k := by
  intro s
  induction s with
  | zero => exact fun e h => absurd h (Nat.not_lt_zero e)
  | succ s ih =>
    intro e h
    rcases Nat.lt_or_ge e (ds_S nv s) with z | z
    · obtain ⟨j, k, h1, h2, h3⟩ := ih e z
      exact ⟨j, k, by omega, h2, h3⟩
    · simp only [ds_S] at h
      exact ⟨s, e - ds_S nv s, by omega, by omega, by omega⟩
theorem ds_t_cong {a a' : Nat → Int32} {n : Nat} (h : ∀ i, i < n → a i = a' i) : ds_t a n = ds_t a' n := by
  induction n with
  | zero => rfl
  | succ n ih =>
    simp only [ds_t]
    rw [ih (fun i hi => h i (by omega)), h n (by omega)]
theorem ds_S_cong {a a' : Nat → Nat} {n : Nat} (h : ∀ i, i < n → a i = a' i) : ds_S a n = ds_S a' n := by
  induction n with
  | zero => rfl
  | succ n ih =>
    simp only [ds_S]
    rw [ih (fun i hi => h i (by omega)), h n (by omega)]
theorem ds_P_cong {a a' : Nat → Nat} {n : Nat} (h : ∀ i, i < n → a i = a' i) : ds_P a n = ds_P a' n := by
  induction n with
  | zero => rfl
  | succ n ih =>
    simp only [ds_P]
    rw [ih (fun i hi => h i (by omega)), h n (by omega)]
section
variable {E R T U : Nat} {b nv : Nat → Nat} {a3 a4 a6 a7 : Nat → Int32}
theorem ds_q_mono (q : ds_Q E R T U b nv a3 a4 a6 a7) {r s : Nat} (h : r ≤ s) (hs : s ≤ R) : b r + (s - r) ≤ b s := by
  obtain ⟨_, _, _, _, _, _, _, _, q9, _, _⟩ := q
  induction s with
  | zero =>
    have e : r = 0 := by omega
    rw [e]
    omega
  | succ s ih =>
    rcases Nat.lt_or_ge s r with z | z
    · have e : r = s + 1 := by omega
      rw [e]
      omega
    · have t := ih z (by omega)
      have t2 := (q9 s (by omega)).1
      omega
theorem ds_q_le (q : ds_Q E R T U b nv a3 a4 a6 a7) {r : Nat} (h : r ≤ R) : b r ≤ T := by
  have t := ds_q_mono q h (Nat.le_refl R)
  obtain ⟨_, q2, _⟩ := q
  omega
theorem ds_q_R (q : ds_Q E R T U b nv a3 a4 a6 a7) : R ≤ 52 := by
  have t := ds_q_mono q (Nat.zero_le R) (Nat.le_refl R)
  obtain ⟨_, q2, _, _, _, q6, _⟩ := q
  omega
/-- a slot lies in a record -/
theorem ds_q_loc (q : ds_Q E R T U b nv a3 a4 a6 a7) : ∀ s, s ≤ R → ∀ j, j < b s → ∃ r, r < s ∧ b r ≤ j ∧ j < b (r + 1) := by
  obtain ⟨q1, _⟩ := q
  intro s
  induction s with
  | zero =>
    intro _ j h
    omega
  | succ s ih =>
    intro hs j hj
    rcases Nat.lt_or_ge j (b s) with z | z
    · obtain ⟨r, h1, h2, h3⟩ := ih (by omega) j z
      exact ⟨r, by omega, h2, h3⟩
    · exact ⟨s, by omega, z, hj⟩
theorem ds_q_01 (q : ds_Q E R T U b nv a3 a4 a6 a7) {j : Nat} (hj : j < T) : a3 j = 0 ∨ a3 j = 1 := by
  have hq := q
  obtain ⟨_, q2, _, _, _, _, _, _, q9, _, _⟩ := hq
  obtain ⟨r, h1, h2, h3⟩ := ds_q_loc q R (Nat.le_refl R) j (by omega)
  obtain ⟨_, _, p3, p4, _⟩ := q9 r h1
  rcases Nat.lt_or_ge (b r) j with z | z
  · exact Or.inr (p4 j z h3)
  · have e : j = b r := by omega
    rw [e]
    exact Or.inl p3
theorem ds_q_rec1 (q : ds_Q E R T U b nv a3 a4 a6 a7) {r : Nat} (hr : r < R) (hz : ds_z a3 (b r) = r) : ∀ k, k < b (r + 1) - b r → ds_z a3 (b r + k + 1) = r + 1 ∧ ds_g a3 (b r + k + 1) = k := by
  obtain ⟨_, _, _, _, _, _, _, _, q9, _, _⟩ := q
  obtain ⟨_, _, p3, p4, _⟩ := q9 r hr
  intro k
  induction k with
  | zero =>
    intro _
    have e1 := ds_z_s1 (a := a3) (e := b r) p3
    have e2 := ds_g_s0 (a := a3) (e := b r) p3
    exact ⟨by rw [show b r + 0 + 1 = b r + 1 by omega, e1, hz], by rw [show b r + 0 + 1 = b r + 1 by omega, e2]⟩
  | succ k ih =>
    intro hk
    obtain ⟨i1, i2⟩ := ih (by omega)
    have h1 := p4 (b r + k + 1) (by omega) (by omega)
    have e1 := ds_z_s0 (a := a3) (e := b r + k + 1) (by rw [h1]; decide)
    have e2 := ds_g_s1 (a := a3) (e := b r + k + 1) h1
    exact ⟨by rw [show b r + (k + 1) + 1 = b r + k + 1 + 1 by omega, e1, i1], by rw [show b r + (k + 1) + 1 = b r + k + 1 + 1 by omega, e2, i2]⟩
theorem ds_q_zb (q : ds_Q E R T U b nv a3 a4 a6 a7) : ∀ r, r ≤ R → ds_z a3 (b r) = r := by
  have hq := q
  obtain ⟨q1, _, _, _, _, _, _, _, q9, _, _⟩ := hq
  intro r
  induction r with
  | zero =>
    intro _
    rw [q1]
    rfl
  | succ r ih =>
    intro hr
    have h1 := (q9 r (by omega)).1
    have h2 := ds_q_rec1 q (r := r) (by omega) (ih (by omega)) (b (r + 1) - b r - 1) (by omega)
    rw [show b r + (b (r + 1) - b r - 1) + 1 = b (r + 1) by omega] at h2
    exact h2.1
theorem ds_q_rec (q : ds_Q E R T U b nv a3 a4 a6 a7) {r k : Nat} (hr : r < R) (hk : k < b (r + 1) - b r) : ds_z a3 (b r + k + 1) = r + 1 ∧ ds_g a3 (b r + k + 1) = k :=
  ds_q_rec1 q hr (ds_q_zb q r (by omega)) k hk
/-- no slot ahead of slot (r, g) looks like it -/
theorem ds_q_fst (q : ds_Q E R T U b nv a3 a4 a6 a7) {r g i : Nat} (hr : r < R) (hg : g < b (r + 1) - b r) (hi : i < b r + g) : ¬ (ds_z a3 (i + 1) = r + 1 ∧ ds_g a3 (i + 1) = g) := by
  rcases Nat.lt_or_ge i (b r) with z | z
  · intro h
    have t := ds_z_mono a3 (show i + 1 ≤ b r by omega)
    rw [ds_q_zb q r (by omega)] at t
    omega
  · intro h
    have t := ds_q_rec q hr (k := i - b r) (by omega)
    rw [show b r + (i - b r) + 1 = i + 1 by omega] at t
    omega
/-- inside a slot's value entries -/
theorem ds_q_in1 (q : ds_Q E R T U b nv a3 a4 a6 a7) {j : Nat} (hj : j < U) (hz : ds_z a6 (ds_S nv j) = ds_z a3 j) (hg : ds_g a6 (ds_S nv j) = ds_g a3 j) (ht : ds_t a7 (ds_S nv j) = ds_P nv j) :
    ∀ k, k < max 1 (nv j) → ds_z a6 (ds_S nv j + k + 1) = ds_z a3 (j + 1) ∧ ds_g a6 (ds_S nv j + k + 1) = ds_g a3 (j + 1) ∧ ds_t a7 (ds_S nv j + k + 1) = ds_P nv j + min (k + 1) (nv j) := by
  obtain ⟨_, _, _, _, _, _, _, _, _, _, q11⟩ := q
  obtain ⟨p1, p2, p3, p4⟩ := q11 j hj
  intro k
  induction k with
  | zero =>
    intro _
    rw [show ds_S nv j + 0 + 1 = ds_S nv j + 1 by omega]
    refine ⟨?_, ?_, ?_⟩
    · simp only [ds_z]
      rw [p1, hz]
    · simp only [ds_g]
      rw [p1, hg]
    · rcases Nat.eq_zero_or_pos (nv j) with z | z
      · rw [ds_t_s0 (by rcases p4 z with e | e <;> (rw [e]; decide)), ht]
        omega
      · have e := p3 0 z
        rw [show ds_S nv j + 0 = ds_S nv j by omega] at e
        rw [ds_t_s1 e, ht]
        omega
  | succ k ih =>
    intro hk
    obtain ⟨i1, i2, i3⟩ := ih (by omega)
    have e1 := p2 (k + 1) (by omega) (by omega)
    have e2 := p3 (k + 1) (by omega)
    rw [show ds_S nv j + (k + 1) = ds_S nv j + k + 1 by omega] at e1 e2 ⊢
    refine ⟨?_, ?_, ?_⟩
    · rw [ds_z_s0 (by rw [e1]; decide), i1]
    · rw [ds_g_s2 e1, i2]
    · rw [ds_t_s1 e2, i3]
      omega
theorem ds_q_slot (q : ds_Q E R T U b nv a3 a4 a6 a7) : ∀ j, j ≤ U → ds_z a6 (ds_S nv j) = ds_z a3 j ∧ ds_g a6 (ds_S nv j) = ds_g a3 j ∧ ds_t a7 (ds_S nv j) = ds_P nv j := by
  intro j
  induction j with
  | zero => exact fun _ => ⟨rfl, rfl, rfl⟩
  | succ j ih =>
    intro hj
    obtain ⟨i1, i2, i3⟩ := ih (by omega)
    obtain ⟨h1, h2, h3⟩ := ds_q_in1 q (j := j) (by omega) i1 i2 i3 (max 1 (nv j) - 1) (by omega)
    have e : ds_S nv j + (max 1 (nv j) - 1) + 1 = ds_S nv (j + 1) := by
      simp only [ds_S]
      omega
    rw [e] at h1 h2 h3
    refine ⟨h1, h2, ?_⟩
    rw [h3]
    simp only [ds_P]
    omega
theorem ds_q_in (q : ds_Q E R T U b nv a3 a4 a6 a7) {j k : Nat} (hj : j < U) (hk : k < max 1 (nv j)) : ds_z a6 (ds_S nv j + k + 1) = ds_z a3 (j + 1) ∧ ds_g a6 (ds_S nv j + k + 1) = ds_g a3 (j + 1) ∧ ds_t a7 (ds_S nv j + k + 1) = ds_P nv j + min (k + 1) (nv j) := by
  obtain ⟨i1, i2, i3⟩ := ds_q_slot q j (by omega)
  exact ds_q_in1 q hj i1 i2 i3 k hk
/-- no value entry ahead of slot (r, g) looks like it -/
theorem ds_q_fsv (q : ds_Q E R T U b nv a3 a4 a6 a7) {r g e : Nat} (hr : r < R) (hg : g < b (r + 1) - b r) (hU : b r + g < U) (he : e < ds_S nv (b r + g)) : ¬ (ds_z a6 (e + 1) = r + 1 ∧ ds_g a6 (e + 1) = g) := by
  obtain ⟨j, k, h1, h2, h3⟩ := ds_S_loc nv (b r + g) e he
  obtain ⟨i1, i2, _⟩ := ds_q_in q (j := j) (k := k) (by omega) h2
  rw [h3, i1, i2]
  exact ds_q_fst q hr hg h1
/-- room -/
theorem ds_q_SU (q : ds_Q E R T U b nv a3 a4 a6 a7) : ds_S nv U ≤ 112 := by
  obtain ⟨_, _, _, _, q5, q6, q7, _⟩ := q
  have t := ds_S_le nv U
  have t2 := ds_P_mono nv q5
  omega
end
end
section
theorem ds_neg1 : nI 0 - 1 = (-1 : Int32) := by decide
theorem ds_p1 (c : Nat) : nI c - 1 + 1 = nI (c + 1) - 1 := by
  rw [← nI_1]
  grind
theorem ds_p0 (c : Nat) : nI c - 1 + 0 = nI c - 1 := Int32.add_zero _
theorem ds_p2 (c : Nat) : nI (c + 1) - 1 = nI c := by
  rw [← nI_1]
  grind
theorem ds_meq {c r : Nat} (hc : c < 2 ^ 30) (hr : r < 2 ^ 30) : nI c - 1 = nI r ↔ c = r + 1 := by
  constructor
  · intro h
    have h2 : nI c = nI (r + 1) := by
      rw [← nI_1, ← h]
      grind
    exact (nI_eq (by omega) (by omega)).mp h2
  · intro h
    rw [h]
    exact ds_p2 r
section
variable {post : St1 → Prop} {J : Int32 → Int32 → Int32 → Int32 → Prop} {io bg en nc te tg ve vl og ov gc fd ps : Int32} {a1 a2 a3 a4 a5 a6 a7 a8 : Nat → Int32}
theorem ds_ft83 {x1 x2 x3 x4 : Int32} {e p : Nat} (he : e < 52) (h : J x3 x4 (nI (e + 1)) (nI (if a4 e = 2 then p + 1 else p))) :
    wX_findTag_83 post J x1 x2 x3 x4 (nI e) io bg en nc te tg ve vl og ov gc fd (nI p) a1 a2 a3 a4 a5 a6 a7 a8 := by
  refine And.intro (pk_in e 52 he) ?_
  rw [nI_clamp (show e < 2 ^ 31 by omega)]
  refine br_c (fun z => nm_r (nI_1 p) (nm_r (nI_1 e) ?_)) (fun z => nm_r (Int32.add_zero _) (nm_r (nI_1 e) ?_))
  · rw [if_pos z] at h
    exact h
  · rw [if_neg z] at h
    exact h
theorem ds_ft63 {r g c d e p : Nat} (hr : r < 2 ^ 30) (hg : g < 2 ^ 30) (hc : c < 2 ^ 30) (hd : d < 2 ^ 30) (he : e < 52)
    (A : c = r + 1 → d = g → post (io, bg, en, nc, te, tg, ve, vl, og, ov, gc, nI e, nI p, a1, a2, a3, a4, a5, a6, a7, a8))
    (B : ¬ (c = r + 1 ∧ d = g) → J (nI c - 1) (nI d) (nI (e + 1)) (nI (if a4 e = 2 then p + 1 else p))) :
    wX_findTag_63 post J (nI r) (nI g) (nI c - 1) (nI e) (nI d) io bg en nc te tg ve vl og ov gc fd (nI p) a1 a2 a3 a4 a5 a6 a7 a8 := by
  unfold wX_findTag_63
  exact ek_if (ds_meq hc hr) (fun h1 => pk_eq d g (fun h2 => A h1 h2) (fun h2 => ds_ft83 he (B (fun t => h2 t.2)))) (fun h1 => ds_ft83 he (B (fun t => h1 t.1)))
theorem ds_ft18 {r g e T n : Nat} (hr : r < 2 ^ 30) (hg : g < 2 ^ 30) (hT : T ≤ 52) (he : e < T) (h01 : a3 e = 0 ∨ a3 e = 1)
    (A : ds_z a3 (e + 1) = r + 1 → ds_g a3 (e + 1) = g → post (io, bg, en, nc, nI T, tg, ve, vl, og, ov, gc, nI e, nI (ds_t a4 e), a1, a2, a3, a4, a5, a6, a7, a8))
    (B : ¬ (ds_z a3 (e + 1) = r + 1 ∧ ds_g a3 (e + 1) = g) → wX_findTag_18 post (nI r) (nI g) io bg en nc (nI T) tg ve vl og ov gc fd a1 a2 a3 a4 a5 a6 a7 a8 n (nI (ds_z a3 (e + 1)) - 1) (nI (ds_g a3 (e + 1))) (nI (e + 1)) (nI (ds_t a4 (e + 1)))) :
    wX_findTag_18 post (nI r) (nI g) io bg en nc (nI T) tg ve vl og ov gc fd a1 a2 a3 a4 a5 a6 a7 a8 (n + 1) (nI (ds_z a3 e) - 1) (nI (ds_g a3 e)) (nI e) (nI (ds_t a4 e)) := by
  have k1 := ds_z_le a3 e
  have k2 := ds_g_le a3 e
  refine pk_le T e (fun z => absurd z (by omega)) (fun _ => And.intro (pk_in e 52 (by omega)) ?_)
  rw [nI_clamp (show e < 2 ^ 31 by omega)]
  refine br_c (fun z => ?_) (fun z => ?_)
  · refine nm_r (ds_p1 _) (And.intro (pk_in e 52 (by omega)) ?_)
    rw [nI_clamp (show e < 2 ^ 31 by omega)]
    rw [ds_z_s1 z, ds_g_s0 z] at A B
    exact br_t z (ds_ft63 (d := 0) hr hg (by omega) (by omega) (by omega) A B)
  · refine nm_r (ds_p0 _) (And.intro (pk_in e 52 (by omega)) ?_)
    rw [nI_clamp (show e < 2 ^ 31 by omega)]
    have z1 : a3 e = 1 := h01.resolve_left z
    rw [ds_z_s0 z, ds_g_s1 z1] at A B
    refine br_f z ?_
    rw [nI_1]
    exact ds_ft63 hr hg (by omega) (by omega) (by omega) A B
theorem ds_find {E R T U : Nat} {b nv : Nat → Nat} (q : ds_Q E R T U b nv a3 a4 a6 a7) {r g : Nat} (hr : r < R) (hg : g < b (r + 1) - b r) (H : post (io, bg, en, nc, nI T, tg, ve, vl, og, ov, gc, nI (b r + g), nI (ds_t a4 (b r + g)), a1, a2, a3, a4, a5, a6, a7, a8)) : wpX_findTag post (io, bg, en, nc, nI T, tg, ve, vl, og, ov, gc, fd, ps, a1, a2, a3, a4, a5, a6, a7, a8) (nI r) (nI g) := by
  have h1 := ds_q_le q (r := r + 1) (by omega)
  have h2 := ds_q_R q
  have h3 : T ≤ 52 := by
    obtain ⟨_, _, _, _, _, q6, _⟩ := q
    exact q6
  obtain ⟨e1, e2⟩ := ds_q_rec q hr hg
  obtain ⟨n, hn⟩ := ds_down (P := fun e => ∃ n, wX_findTag_18 post (nI r) (nI g) io bg en nc (nI T) tg ve vl og ov gc 0 a1 a2 a3 a4 a5 a6 a7 a8 n (nI (ds_z a3 e) - 1) (nI (ds_g a3 e)) (nI e) (nI (ds_t a4 e))) (m := b r + g)
    ⟨1, ds_ft18 (by omega) (by omega) h3 (by omega) (ds_q_01 q (by omega)) (fun _ _ => H) (fun z => absurd ⟨e1, e2⟩ z)⟩
    (fun i hi hn => Exists.elim hn (fun n hn => ⟨n + 1, ds_ft18 (by omega) (by omega) h3 (by omega) (ds_q_01 q (by omega)) (fun t1 t2 => absurd ⟨t1, t2⟩ (ds_q_fst q hr hg hi)) (fun _ => hn)⟩)) 0 (Nat.zero_le _)
  have hn2 : wX_findTag_18 post (nI r) (nI g) io bg en nc (nI T) tg ve vl og ov gc 0 a1 a2 a3 a4 a5 a6 a7 a8 n (nI 0 - 1) (nI 0) (nI 0) (nI 0) := hn
  rw [ds_neg1] at hn2
  exact ⟨n, hn2⟩
theorem ds_fv99 {x1 x2 x3 x4 : Int32} {e p : Nat} (he : e < 112) (h : J x3 x4 (nI (e + 1)) (nI (if a7 e = 2 then p + 1 else p))) :
    wX_findValue_99 post J x1 x2 x3 x4 (nI e) io bg en nc te tg ve vl og ov gc fd (nI p) a1 a2 a3 a4 a5 a6 a7 a8 := by
  refine And.intro (pk_in e 112 he) ?_
  rw [nI_clamp (show e < 2 ^ 31 by omega)]
  refine br_c (fun z => nm_r (nI_1 p) (nm_r (nI_1 e) ?_)) (fun z => nm_r (Int32.add_zero _) (nm_r (nI_1 e) ?_))
  · rw [if_pos z] at h
    exact h
  · rw [if_neg z] at h
    exact h
theorem ds_fv79 {r g c d e p : Nat} (hr : r < 2 ^ 30) (hg : g < 2 ^ 30) (hc : c < 2 ^ 30) (hd : d < 2 ^ 30) (he : e < 112)
    (A : c = r + 1 → d = g → post (io, bg, en, nc, te, tg, ve, vl, og, ov, gc, nI e, nI p, a1, a2, a3, a4, a5, a6, a7, a8))
    (B : ¬ (c = r + 1 ∧ d = g) → J (nI c - 1) (nI d) (nI (e + 1)) (nI (if a7 e = 2 then p + 1 else p))) :
    wX_findValue_79 post J (nI r) (nI g) (nI c - 1) (nI e) (nI d) io bg en nc te tg ve vl og ov gc fd (nI p) a1 a2 a3 a4 a5 a6 a7 a8 := by
  unfold wX_findValue_79
  exact ek_if (ds_meq hc hr) (fun h1 => pk_eq d g (fun h2 => A h1 h2) (fun h2 => ds_fv99 he (B (fun t => h2 t.2)))) (fun h1 => ds_fv99 he (B (fun t => h1 t.1)))
theorem ds_fv18 {r g e V n : Nat} (hr : r < 2 ^ 30) (hg : g < 2 ^ 30) (hT : V ≤ 112) (he : e < V)
    (A : ds_z a6 (e + 1) = r + 1 → ds_g a6 (e + 1) = g → post (io, bg, en, nc, te, tg, nI V, vl, og, ov, gc, nI e, nI (ds_t a7 e), a1, a2, a3, a4, a5, a6, a7, a8))
    (B : ¬ (ds_z a6 (e + 1) = r + 1 ∧ ds_g a6 (e + 1) = g) → wX_findValue_18 post (nI r) (nI g) io bg en nc te tg (nI V) vl og ov gc fd a1 a2 a3 a4 a5 a6 a7 a8 n (nI (ds_z a6 (e + 1)) - 1) (nI (ds_g a6 (e + 1))) (nI (e + 1)) (nI (ds_t a7 (e + 1)))) :
    wX_findValue_18 post (nI r) (nI g) io bg en nc te tg (nI V) vl og ov gc fd a1 a2 a3 a4 a5 a6 a7 a8 (n + 1) (nI (ds_z a6 e) - 1) (nI (ds_g a6 e)) (nI e) (nI (ds_t a7 e)) := by
  have k1 := ds_z_le a6 e
  have k2 := ds_g_le a6 e
  refine pk_le V e (fun z => absurd z (by omega)) (fun _ => And.intro (pk_in e 112 (by omega)) ?_)
  rw [nI_clamp (show e < 2 ^ 31 by omega)]
  refine br_c (fun z => ?_) (fun z => ?_)
  · refine nm_r (ds_p1 _) (And.intro (pk_in e 112 (by omega)) ?_)
    rw [nI_clamp (show e < 2 ^ 31 by omega)]
    rw [ds_z_s1 z, ds_g_s0 z] at A B
    exact br_t z (ds_fv79 (d := 0) hr hg (by omega) (by omega) (by omega) A B)
  · refine nm_r (ds_p0 _) (And.intro (pk_in e 112 (by omega)) ?_)
    rw [nI_clamp (show e < 2 ^ 31 by omega)]
    refine br_f z (And.intro (pk_in e 112 (by omega)) ?_)
    refine br_c (fun z1 => ?_) (fun z1 => ?_)
    · rw [ds_z_s0 z, ds_g_s1 z1] at A B
      rw [nI_1]
      exact ds_fv79 hr hg (by omega) (by omega) (by omega) A B
    · have z2 : ds_g a6 (e + 1) = ds_g a6 e := by
        simp only [ds_g]
        rw [if_neg z, if_neg z1]
      rw [ds_z_s0 z, z2] at A B
      exact ds_fv79 hr hg (by omega) (by omega) (by omega) A B
theorem ds_findV {E R T U : Nat} {b nv : Nat → Nat} (q : ds_Q E R T U b nv a3 a4 a6 a7) {r g : Nat} (hr : r < R) (hg : g < b (r + 1) - b r) (hU : b r + g < U) (H : post (io, bg, en, nc, te, tg, nI (ds_S nv U), vl, og, ov, gc, nI (ds_S nv (b r + g)), nI (ds_P nv (b r + g)), a1, a2, a3, a4, a5, a6, a7, a8)) : wpX_findValue post (io, bg, en, nc, te, tg, nI (ds_S nv U), vl, og, ov, gc, fd, ps, a1, a2, a3, a4, a5, a6, a7, a8) (nI r) (nI g) := by
  have h2 := ds_q_R q
  have h3 := ds_q_SU q
  have h4 := ds_S_mono nv (show b r + g + 1 ≤ U by omega)
  have h5 : ds_S nv (b r + g + 1) = ds_S nv (b r + g) + max 1 (nv (b r + g)) := rfl
  have h6 := (ds_q_slot q (b r + g) (by omega)).2.2
  have h7 : b r + g < 52 := by
    obtain ⟨_, _, _, _, _, q6, _⟩ := q
    omega
  obtain ⟨e1, e2⟩ := ds_q_rec q hr hg
  obtain ⟨i1, i2, _⟩ := ds_q_in q (j := b r + g) (k := 0) hU (by omega)
  rw [e1] at i1
  rw [e2] at i2
  rw [← h6] at H
  obtain ⟨n, hn⟩ := ds_down (P := fun e => ∃ n, wX_findValue_18 post (nI r) (nI g) io bg en nc te tg (nI (ds_S nv U)) vl og ov gc 0 a1 a2 a3 a4 a5 a6 a7 a8 n (nI (ds_z a6 e) - 1) (nI (ds_g a6 e)) (nI e) (nI (ds_t a7 e))) (m := ds_S nv (b r + g))
    ⟨1, ds_fv18 (by omega) (by omega) h3 (by omega) (fun _ _ => H) (fun z => absurd ⟨i1, i2⟩ z)⟩
    (fun i hi hn => Exists.elim hn (fun n hn => ⟨n + 1, ds_fv18 (by omega) (by omega) h3 (by omega) (fun t1 t2 => absurd ⟨t1, t2⟩ (ds_q_fsv q hr hg hU hi)) (fun _ => hn)⟩)) 0 (Nat.zero_le _)
  have hn2 : wX_findValue_18 post (nI r) (nI g) io bg en nc te tg (nI (ds_S nv U)) vl og ov gc 0 a1 a2 a3 a4 a5 a6 a7 a8 n (nI 0 - 1) (nI 0) (nI 0) (nI 0) := hn
  rw [ds_neg1] at hn2
  exact ⟨n, hn2⟩
end
end
section
/-- the groups of record r -/
def ds_n (b : Nat → Nat) (a4 : Nat → Int32) (r : Nat) : Nat := if a4 (b r) = 0 then 0 else b (r + 1) - b r
theorem ds_nm1 {g : Nat} (h : g < 2 ^ 30) : ¬ nI g = -1 := by
  intro e
  have t := nI_toInt (n := g) (by omega)
  rw [e] at t
  have t2 : (-1 : Int32).toInt = -1 := by decide
  omega
section
variable {io bg nc tg vl og ov gc fd ps : Int32} {a1 a2 a3 a4 a5 a6 a7 a8 : Nat → Int32} {E R T U : Nat} {b nv : Nat → Nat}
theorem ds_n_le (q : ds_Q E R T U b nv a3 a4 a6 a7) {r : Nat} (hr : r < E) : ds_n b a4 r ≤ 4 := by
  obtain ⟨_, _, q3, _, _, _, _, _, q9, _, _⟩ := q
  have t := (q9 r (by omega)).2.1
  unfold ds_n
  split
  · omega
  · omega
/-- what a group that is there rests on -/
theorem ds_n_g (q : ds_Q E R T U b nv a3 a4 a6 a7) {r g : Nat} (hr : r < E) (hg : g < ds_n b a4 r) : r < R ∧ g < b (r + 1) - b r ∧ b r + g < U ∧ b r + g < T ∧ ds_P nv (b r + g) + nv (b r + g) ≤ 60 ∧ g < 4 := by
  have t := ds_q_mono q (r := r + 1) (s := E) (by omega) (by obtain ⟨_, _, q3, _⟩ := q; exact q3)
  have t4 := ds_n_le q hr
  obtain ⟨_, _, q3, q4, q5, _, q7, _, q9, _, _⟩ := q
  have t1 : g < b (r + 1) - b r := by
    unfold ds_n at hg
    split at hg
    · omega
    · omega
  have t2 := ds_P_mono nv (show b r + g + 1 ≤ T by omega)
  have t3 : ds_P nv (b r + g + 1) = ds_P nv (b r + g) + nv (b r + g) := rfl
  exact ⟨by omega, t1, by omega, by omega, by omega, by omega⟩
theorem ds_isE {post : Int32 → Prop} {te ve : Int32} {r : Nat} (hr : r < E) (hE : E < 2 ^ 31) (H : post 1) : wpX_isEnded post (io, bg, nI E, nc, te, tg, ve, vl, og, ov, gc, fd, ps, a1, a2, a3, a4, a5, a6, a7, a8) (nI r) :=
  br_f (nI_pos (by omega)) (pk_le E r (fun z => absurd z (by omega)) (fun _ => H))
theorem ds_gl {post : Int32 → St1 → Prop} (q : ds_Q E R T U b nv a3 a4 a6 a7) {r : Nat} (hr : r < R) (H : post (nI (b (r + 1) - b r)) (io, bg, nI E, nc, nI T, tg, nI (ds_S nv U), vl, og, ov, gc, fd, ps, a1, a2, a3, a4, a5, a6, a7, a8)) :
    ∃ n, wX_groups_39 post io bg (nI E) nc (nI T) tg (nI (ds_S nv U)) vl og ov gc fd ps a1 a2 a3 a4 a5 a6 a7 a8 n 1 (nI (b r + 1)) := by
  have hT := ds_q_le q (r := r + 1) (by omega)
  have hq := q
  obtain ⟨_, q2, _, _, _, q6, _, _, q9, _, _⟩ := hq
  obtain ⟨p1, _, _, p4, _⟩ := q9 r hr
  have base : ∃ n, wX_groups_39 post io bg (nI E) nc (nI T) tg (nI (ds_S nv U)) vl og ov gc fd ps a1 a2 a3 a4 a5 a6 a7 a8 n (nI (b (r + 1) - b r - 1 + 1)) (nI (b r + (b (r + 1) - b r - 1) + 1)) := by
    rw [show b r + (b (r + 1) - b r - 1) + 1 = b (r + 1) by omega, show b (r + 1) - b r - 1 + 1 = b (r + 1) - b r by omega]
    refine ⟨1, ?_⟩
    refine pk_le T (b (r + 1)) (fun _ => H) (fun z => And.intro (pk_in (b (r + 1)) 52 (by omega)) ?_)
    rw [nI_clamp (show b (r + 1) < 2 ^ 31 by omega)]
    have hr2 : r + 1 < R := by
      rcases Nat.lt_or_ge (r + 1) R with y | y
      · exact y
      · have e : r + 1 = R := by omega
        rw [e] at z
        omega
    exact br_t (by rw [(q9 (r + 1) hr2).2.2.1]; decide) H
  obtain ⟨n, hn⟩ := ds_down (P := fun i => ∃ n, wX_groups_39 post io bg (nI E) nc (nI T) tg (nI (ds_S nv U)) vl og ov gc fd ps a1 a2 a3 a4 a5 a6 a7 a8 n (nI (i + 1)) (nI (b r + i + 1))) (m := b (r + 1) - b r - 1) base
    (fun i hi hn => Exists.elim hn (fun n hn => by
      refine ⟨n + 1, ?_⟩
      refine pk_le T (b r + i + 1) (fun z => absurd z (by omega)) (fun z => And.intro (pk_in (b r + i + 1) 52 (by omega)) ?_)
      rw [nI_clamp (show b r + i + 1 < 2 ^ 31 by omega)]
      rw [show b r + (i + 1) + 1 = b r + i + 1 + 1 by omega] at hn
      exact br_f (by rw [p4 (b r + i + 1) (by omega) (by omega)]; decide) (nm_r (nI_1 _) (nm_r (nI_1 _) hn)))) 0 (Nat.zero_le _)
  exact ⟨n, hn⟩
theorem ds_groups {post : Int32 → St1 → Prop} (q : ds_Q E R T U b nv a3 a4 a6 a7) {r : Nat} (hr : r < E) (H : ∀ f p, post (nI (ds_n b a4 r)) (io, bg, nI E, nc, nI T, tg, nI (ds_S nv U), vl, og, ov, gc, f, p, a1, a2, a3, a4, a5, a6, a7, a8)) : wpX_groups post (io, bg, nI E, nc, nI T, tg, nI (ds_S nv U), vl, og, ov, gc, fd, ps, a1, a2, a3, a4, a5, a6, a7, a8) (nI r) := by
  have hq := q
  obtain ⟨_, _, q3, _, _, q6, _, _, q9, _, _⟩ := hq
  have hR := ds_q_R q
  obtain ⟨p1, p2, p3, p4, p5⟩ := q9 r (by omega)
  have hT := ds_q_le q (r := r + 1) (by omega)
  unfold wpX_groups
  dsimp only
  refine ds_isE hr (by omega) (br_f (by decide) (ds_find q (g := 0) (by omega) (by omega) ?_))
  dsimp only
  rw [Nat.add_zero]
  refine And.intro (pk_in (b r) 52 (by omega)) ?_
  rw [nI_clamp (show b r < 2 ^ 31 by omega)]
  unfold ds_n at H
  refine br_c (fun z => ?_) (fun z => nm_r (nI_1 (b r)) ?_)
  · rw [if_pos z] at H
    exact H _ _
  · rw [if_neg z] at H
    exact ds_gl q (by omega) (H _ _)
theorem ds_isG {post : Int32 → St1 → Prop} (q : ds_Q E R T U b nv a3 a4 a6 a7) {r g : Nat} (hr : r < E) (hg : g < 2 ^ 30) (H : ∀ f p, post (if g < ds_n b a4 r then 1 else 0) (io, bg, nI E, nc, nI T, tg, nI (ds_S nv U), vl, og, ov, gc, f, p, a1, a2, a3, a4, a5, a6, a7, a8)) : wpX_isGroup post (io, bg, nI E, nc, nI T, tg, nI (ds_S nv U), vl, og, ov, gc, fd, ps, a1, a2, a3, a4, a5, a6, a7, a8) (nI r) (nI g) := by
  have hR := ds_q_R q
  have hn := ds_n_le q hr
  have hE : E < 2 ^ 31 := by
    obtain ⟨_, _, q3, _⟩ := q
    omega
  unfold wpX_isGroup
  dsimp only
  refine ds_isE hr hE (br_f (by decide) (br_f (nI_pos (by omega)) (ds_groups q hr (fun f p => ?_))))
  dsimp only
  refine pk_le (ds_n b a4 r) g (fun z => ?_) (fun z => ?_)
  · have t := H f p
    rw [if_neg (by omega)] at t
    exact t
  · have t := H f p
    rw [if_pos z] at t
    exact t
theorem ds_vl {post : Int32 → St1 → Prop} (q : ds_Q E R T U b nv a3 a4 a6 a7) {j : Nat} (hj : j < U) (h0 : 0 < nv j) (H : post (nI (nv j)) (io, bg, nI E, nc, nI T, tg, nI (ds_S nv U), vl, og, ov, gc, fd, ps, a1, a2, a3, a4, a5, a6, a7, a8)) :
    ∃ n, wX_values_42 post io bg (nI E) nc (nI T) tg (nI (ds_S nv U)) vl og ov gc fd ps a1 a2 a3 a4 a5 a6 a7 a8 n 1 (nI (ds_S nv j + 1)) := by
  have hS := ds_q_SU q
  have hq := q
  obtain ⟨_, _, _, _, q5, q6, _, _, _, _, q11⟩ := hq
  obtain ⟨p1, p2, p3, p4⟩ := q11 j hj
  have e1 : ds_S nv (j + 1) = ds_S nv j + max 1 (nv j) := rfl
  have e2 := ds_S_mono nv (show j + 1 ≤ U by omega)
  have base : ∃ n, wX_values_42 post io bg (nI E) nc (nI T) tg (nI (ds_S nv U)) vl og ov gc fd ps a1 a2 a3 a4 a5 a6 a7 a8 n (nI (nv j - 1 + 1)) (nI (ds_S nv j + (nv j - 1) + 1)) := by
    rw [show ds_S nv j + (nv j - 1) + 1 = ds_S nv (j + 1) by omega, show nv j - 1 + 1 = nv j by omega]
    refine ⟨1, ?_⟩
    refine pk_le (ds_S nv U) (ds_S nv (j + 1)) (fun _ => H) (fun z => And.intro (pk_in (ds_S nv (j + 1)) 112 (by omega)) ?_)
    rw [nI_clamp (show ds_S nv (j + 1) < 2 ^ 31 by omega)]
    have hj2 : j + 1 < U := by
      rcases Nat.lt_or_ge (j + 1) U with y | y
      · exact y
      · have e : j + 1 = U := by omega
        rw [e] at z
        omega
    refine br_f ?_ H
    rw [(q11 (j + 1) hj2).1]
    rcases ds_q_01 q (j := j + 1) (by omega) with e | e
    · rw [e]; decide
    · rw [e]; decide
  obtain ⟨n, hn⟩ := ds_down (P := fun i => ∃ n, wX_values_42 post io bg (nI E) nc (nI T) tg (nI (ds_S nv U)) vl og ov gc fd ps a1 a2 a3 a4 a5 a6 a7 a8 n (nI (i + 1)) (nI (ds_S nv j + i + 1))) (m := nv j - 1) base
    (fun i hi hn => Exists.elim hn (fun n hn => by
      refine ⟨n + 1, ?_⟩
      refine pk_le (ds_S nv U) (ds_S nv j + i + 1) (fun z => absurd z (by omega)) (fun z => And.intro (pk_in (ds_S nv j + i + 1) 112 (by omega)) ?_)
      rw [nI_clamp (show ds_S nv j + i + 1 < 2 ^ 31 by omega)]
      rw [show ds_S nv j + (i + 1) + 1 = ds_S nv j + i + 1 + 1 by omega] at hn
      have e := p2 (i + 1) (by omega) (by omega)
      rw [show ds_S nv j + (i + 1) = ds_S nv j + i + 1 by omega] at e
      exact br_t e (nm_r (nI_1 _) (nm_r (nI_1 _) hn)))) 0 (Nat.zero_le _)
  exact ⟨n, hn⟩
theorem ds_values {post : Int32 → St1 → Prop} (q : ds_Q E R T U b nv a3 a4 a6 a7) {r g : Nat} (hr : r < E) (hg : g < 2 ^ 30) (H : ∀ f p, post (if g < ds_n b a4 r then nI (nv (b r + g)) else -1) (io, bg, nI E, nc, nI T, tg, nI (ds_S nv U), vl, og, ov, gc, f, p, a1, a2, a3, a4, a5, a6, a7, a8)) : wpX_values post (io, bg, nI E, nc, nI T, tg, nI (ds_S nv U), vl, og, ov, gc, fd, ps, a1, a2, a3, a4, a5, a6, a7, a8) (nI r) (nI g) := by
  have hS := ds_q_SU q
  unfold wpX_values
  dsimp only
  refine ds_isG q hr hg (fun f p => ?_)
  dsimp only
  by_cases hn : g < ds_n b a4 r
  · obtain ⟨g1, g2, g3, g4, g5, g6⟩ := ds_n_g q hr hn
    rw [if_pos hn] at H ⊢
    refine br_f (by decide) (ds_findV q g1 g2 g3 ?_)
    dsimp only
    have e1 : ds_S nv (b r + g + 1) = ds_S nv (b r + g) + max 1 (nv (b r + g)) := rfl
    have e2 := ds_S_mono nv (show b r + g + 1 ≤ U by omega)
    have hq := q
    obtain ⟨_, _, _, _, _, _, _, _, _, _, q11⟩ := hq
    obtain ⟨p1, p2, p3, p4⟩ := q11 (b r + g) g3
    refine And.intro (pk_in (ds_S nv (b r + g)) 112 (by omega)) ?_
    rw [nI_clamp (show ds_S nv (b r + g) < 2 ^ 31 by omega)]
    rcases Nat.eq_zero_or_pos (nv (b r + g)) with z | z
    · refine br_f ?_ ?_
      · rcases p4 z with e | e
        · rw [e]; decide
        · rw [e]; decide
      · rw [z] at H
        exact H _ _
    · have e := p3 0 z
      rw [Nat.add_zero] at e
      exact br_t (by rw [e]; decide) (nm_r (nI_1 _) (ds_vl q g3 z (H _ _)))
  · rw [if_neg hn] at H ⊢
    exact br_t rfl (H _ _)
theorem ds_valueAt {post : Int32 → St1 → Prop} (q : ds_Q E R T U b nv a3 a4 a6 a7) {r g k : Nat} (hr : r < E) (hg : g < 2 ^ 30) (hk : k < 2 ^ 30) (H : ∀ f p, post (if g < ds_n b a4 r ∧ k < nv (b r + g) then a8 (ds_P nv (b r + g) + k) else 0) (io, bg, nI E, nc, nI T, tg, nI (ds_S nv U), vl, og, ov, gc, f, p, a1, a2, a3, a4, a5, a6, a7, a8)) : wpX_valueAt post (io, bg, nI E, nc, nI T, tg, nI (ds_S nv U), vl, og, ov, gc, fd, ps, a1, a2, a3, a4, a5, a6, a7, a8) (nI r) (nI g) (nI k) := by
  unfold wpX_valueAt
  dsimp only
  refine ds_isG q hr hg (fun f p => ?_)
  dsimp only
  by_cases hn : g < ds_n b a4 r
  · obtain ⟨g1, g2, g3, g4, g5, g6⟩ := ds_n_g q hr hn
    rw [if_pos hn]
    refine br_f (by decide) (br_f (nI_pos (by omega)) (ds_values q hr hg (fun f p => ?_)))
    dsimp only
    rw [if_pos hn]
    refine pk_lt k (nv (b r + g)) (fun z => ds_findV q g1 g2 g3 ?_) (fun z => ?_)
    · rw [if_pos ⟨hn, z⟩] at H
      dsimp only
      rw [nI_add]
      refine And.intro (pk_in (ds_P nv (b r + g) + k) 60 (by omega)) ?_
      rw [nI_clamp (show ds_P nv (b r + g) + k < 2 ^ 31 by omega)]
      exact H _ _
    · rw [if_neg (fun y => absurd y.2 (by omega))] at H
      exact H _ _
  · rw [if_neg (fun y => hn y.1)] at H
    rw [if_neg hn]
    exact br_t rfl (H _ _)
theorem ds_label {post : Int32 → St1 → Prop} (q : ds_Q E R T U b nv a3 a4 a6 a7) {r g : Nat} (hr : r < E) (hg : g < 2 ^ 30) (H : ∀ f p, post (if g < ds_n b a4 r ∧ a4 (b r + g) = 2 then a5 (ds_t a4 (b r + g)) else 0) (io, bg, nI E, nc, nI T, tg, nI (ds_S nv U), vl, og, ov, gc, f, p, a1, a2, a3, a4, a5, a6, a7, a8)) : wpX_label post (io, bg, nI E, nc, nI T, tg, nI (ds_S nv U), vl, og, ov, gc, fd, ps, a1, a2, a3, a4, a5, a6, a7, a8) (nI r) (nI g) := by
  have hR := ds_q_R q
  have hE : E < 2 ^ 31 := by
    obtain ⟨_, _, q3, _⟩ := q
    omega
  unfold wpX_label
  dsimp only
  refine ds_isE hr hE (br_f (by decide) (br_f (ds_nm1 hg) (ds_isG q hr hg (fun f p => ?_))))
  dsimp only
  by_cases hn : g < ds_n b a4 r
  · obtain ⟨g1, g2, g3, g4, g5, g6⟩ := ds_n_g q hr hn
    rw [if_pos hn]
    refine br_f (by decide) (ds_find q g1 g2 ?_)
    dsimp only
    obtain ⟨_, _, _, _, _, q6, _, q8, _, _, _⟩ := q
    refine And.intro (pk_in (b r + g) 52 (by omega)) ?_
    rw [nI_clamp (show b r + g < 2 ^ 31 by omega)]
    refine br_c (fun z => ?_) (fun z => ?_)
    · have e1 := ds_t_s1 (a := a4) (e := b r + g) z
      have e2 := ds_t_mono a4 (show b r + g + 1 ≤ T by omega)
      rw [if_pos ⟨hn, z⟩] at H
      refine And.intro (pk_in (ds_t a4 (b r + g)) 40 (by omega)) ?_
      rw [nI_clamp (show ds_t a4 (b r + g) < 2 ^ 31 by omega)]
      exact H _ _
    · rw [if_neg (fun y => z y.2)] at H
      exact H _ _
  · rw [if_neg (fun y => hn y.1)] at H
    rw [if_neg hn]
    exact br_t rfl (H _ _)
/-- a record that isn't ended -/
theorem ds_groupsE {post : Int32 → St1 → Prop} {te ve : Int32} (hE : E < 2 ^ 31) (H : post (-1) (io, bg, nI E, nc, te, tg, ve, vl, og, ov, gc, fd, ps, a1, a2, a3, a4, a5, a6, a7, a8)) : wpX_groups post (io, bg, nI E, nc, te, tg, ve, vl, og, ov, gc, fd, ps, a1, a2, a3, a4, a5, a6, a7, a8) (nI E) := by
  unfold wpX_groups
  dsimp only
  unfold wpX_isEnded
  dsimp only
  exact br_f (nI_pos (by omega)) (pk_le E E (fun _ => br_t rfl H) (fun z => absurd z (by omega)))
theorem ds_groupsM {post : Int32 → St1 → Prop} {en te ve : Int32} (H : post (-1) (io, bg, en, nc, te, tg, ve, vl, og, ov, gc, fd, ps, a1, a2, a3, a4, a5, a6, a7, a8)) : wpX_groups post (io, bg, en, nc, te, tg, ve, vl, og, ov, gc, fd, ps, a1, a2, a3, a4, a5, a6, a7, a8) (-1) := by
  unfold wpX_groups
  dsimp only
  unfold wpX_isEnded
  dsimp only
  exact br_t (by decide) (br_t rfl H)
end
end
section
/-- the sum of k values from place p, onto c -/
def ds_v (a : Nat → Int32) (p : Nat) (c : Int32) : Nat → Int32
  | 0 => c
  | k + 1 => ds_v a p c k + a (p + k)
/-- the sum of the wanted slots' values -/
def ds_C (w : Nat → Bool) (nv : Nat → Nat) (a : Nat → Int32) : Nat → Int32
  | 0 => 0
  | j + 1 => cond (w j) (ds_v a (ds_P nv j) (ds_C w nv a j) (nv j)) (ds_C w nv a j)
/-- slot j is of an ended record and has this tag -/
def ds_w (E : Nat) (tag : Int32) (a3 a4 a5 : Nat → Int32) (j : Nat) : Bool := decide (a4 j = 2 ∧ a5 (ds_t a4 j) = tag ∧ ds_z a3 (j + 1) ≤ E)
/-- the value at place i lies between lo and hi -/
def ds_h (lo hi : Int32) (a : Nat → Int32) (i : Nat) : Bool := decide (¬ a i < lo ∧ ¬ hi < a i)
/-- one of the k places from p has h -/
def ds_any (h : Nat → Bool) (p : Nat) : Nat → Bool
  | 0 => false
  | k + 1 => ds_any h p k || h (p + k)
/-- how many of the first r records have a value with h -/
def ds_H (h : Nat → Bool) (b nv : Nat → Nat) : Nat → Nat
  | 0 => 0
  | r + 1 => cond (ds_any h (ds_P nv (b r)) (ds_P nv (b (r + 1)) - ds_P nv (b r))) (ds_H h b nv r + 1) (ds_H h b nv r)
theorem ds_H_le (h : Nat → Bool) (b nv : Nat → Nat) (r : Nat) : ds_H h b nv r ≤ r := by
  induction r with
  | zero => exact Nat.le_refl _
  | succ r ih =>
    simp only [ds_H]
    cases ds_any h (ds_P nv (b r)) (ds_P nv (b (r + 1)) - ds_P nv (b r)) with
    | false => exact Nat.le_succ_of_le ih
    | true => exact Nat.succ_le_succ ih
theorem ds_m1 (j : Nat) : nI j - 1 + 1 = nI j := by grind
section
variable {post : Int32 → Prop} {io bg nc tg vl og ov gc fd ps : Int32} {a1 a2 a3 a4 a5 a6 a7 a8 : Nat → Int32} {E R T U : Nat} {b nv : Nat → Nat}
section
variable {J : Int32 → Int32 → Int32 → Int32 → Int32 → Int32 → Int32 → Prop} {x1 : Int32}
theorem ds_s126a {x2 x3 x4 x6 : Int32} {v e : Nat} {w : Bool} (he : e < 112) (hv : v < 60) (h7 : a7 e = 2) (H : J (cond w (x2 + a8 v) x2) x3 x4 (nI (v + 1)) x6 (cond w 1 0) (nI (e + 1))) :
    wX_sumByTag_126 post J x1 x2 x3 x4 (nI v) x6 (cond w 1 0) (nI e) io bg (nI E) nc (nI T) tg (nI (ds_S nv U)) vl og ov gc fd ps a1 a2 a3 a4 a5 a6 a7 a8 := by
  unfold wX_sumByTag_126
  refine And.intro (pk_in e 112 he) ?_
  rw [nI_clamp (show e < 2 ^ 31 by omega)]
  refine br_t h7 ?_
  cases w with
  | false => exact br_t rfl (nm_r (Int32.add_zero _) (nm_r (nI_1 v) (nm_r (nI_1 e) H)))
  | true =>
    refine br_f (by decide) (And.intro (pk_in v 60 hv) ?_)
    rw [nI_clamp (show v < 2 ^ 31 by omega)]
    exact nm_e (nm_r (nI_1 v) (nm_r (nI_1 e) H))
theorem ds_s126b {x2 x3 x4 x5 x6 x7 : Int32} {e : Nat} (he : e < 112) (h7 : ¬ a7 e = 2) (H : J x2 x3 x4 x5 x6 x7 (nI (e + 1))) :
    wX_sumByTag_126 post J x1 x2 x3 x4 x5 x6 x7 (nI e) io bg (nI E) nc (nI T) tg (nI (ds_S nv U)) vl og ov gc fd ps a1 a2 a3 a4 a5 a6 a7 a8 := by
  unfold wX_sumByTag_126
  refine And.intro (pk_in e 112 he) ?_
  rw [nI_clamp (show e < 2 ^ 31 by omega)]
  exact br_f h7 (nm_r (nI_1 e) H)
theorem ds_s109a {x2 x3 x5 x6 x7 x8 : Int32} {t : Nat} (H : wX_sumByTag_126 post J x1 x2 x3 (nI (t + 1)) x5 x6 x7 x8 io bg (nI E) nc (nI T) tg (nI (ds_S nv U)) vl og ov gc fd ps a1 a2 a3 a4 a5 a6 a7 a8) :
    wX_sumByTag_109 post J x1 x2 x3 (nI t) x5 x6 x8 1 x7 io bg (nI E) nc (nI T) tg (nI (ds_S nv U)) vl og ov gc fd ps a1 a2 a3 a4 a5 a6 a7 a8 := by
  unfold wX_sumByTag_109
  exact br_f (by decide) (nm_r (nI_1 t) H)
theorem ds_s109b {x2 x3 x5 x6 x7 x8 : Int32} {t : Nat} (H : wX_sumByTag_126 post J x1 x2 x3 (nI t) x5 x6 x7 x8 io bg (nI E) nc (nI T) tg (nI (ds_S nv U)) vl og ov gc fd ps a1 a2 a3 a4 a5 a6 a7 a8) :
    wX_sumByTag_109 post J x1 x2 x3 (nI t) x5 x6 x8 0 x7 io bg (nI E) nc (nI T) tg (nI (ds_S nv U)) vl og ov gc fd ps a1 a2 a3 a4 a5 a6 a7 a8 := by
  unfold wX_sumByTag_109
  exact br_t rfl (nm_r (Int32.add_zero _) H)
theorem ds_s59 {x2 x5 x8 z0 z1 : Int32} {j c : Nat} (hE : E < 2 ^ 30) (hj : j < 52) (ht : a4 j = 2 → ds_t a4 j < 40) (hc : z1 + z0 = nI c) (hcc : ds_z a3 (j + 1) = c + 1) (hc2 : c < 2 ^ 30)
    (H : wX_sumByTag_126 post J x1 x2 (nI j) (nI (ds_t a4 (j + 1))) x5 (nI c) (cond (ds_w E x1 a3 a4 a5 j) 1 0) x8 io bg (nI E) nc (nI T) tg (nI (ds_S nv U)) vl og ov gc fd ps a1 a2 a3 a4 a5 a6 a7 a8) :
    wX_sumByTag_59 post J x1 x2 (nI j) (nI (ds_t a4 j)) x5 x8 z0 z1 io bg (nI E) nc (nI T) tg (nI (ds_S nv U)) vl og ov gc fd ps a1 a2 a3 a4 a5 a6 a7 a8 := by
  unfold wX_sumByTag_59
  refine nm_r hc (And.intro (pk_in j 52 hj) ?_)
  rw [nI_clamp (show j < 2 ^ 31 by omega)]
  refine br_c (fun z => ?_) (fun z => ?_)
  · have ht2 := ht z
    rw [ds_t_s1 z] at H
    unfold wX_sumByTag_77
    refine br_f (by decide) (And.intro (pk_in (ds_t a4 j) 40 ht2) ?_)
    rw [nI_clamp (show ds_t a4 j < 2 ^ 31 by omega)]
    refine br_c (fun y => ?_) (fun y => ?_)
    · refine pk_le E c (fun u => ?_) (fun u => ?_)
      · have e : ds_w E x1 a3 a4 a5 j = false := decide_eq_false (fun t => absurd t.2.2 (by omega))
        rw [e] at H
        exact ds_s109a H
      · have e : ds_w E x1 a3 a4 a5 j = true := decide_eq_true ⟨z, y, by omega⟩
        rw [e] at H
        exact ds_s109a H
    · have e : ds_w E x1 a3 a4 a5 j = false := decide_eq_false (fun t => y t.2.1)
      rw [e] at H
      exact ds_s109a H
  · have e : ds_w E x1 a3 a4 a5 j = false := decide_eq_false (fun t => z t.1)
    rw [ds_t_s0 z, e] at H
    unfold wX_sumByTag_77
    exact br_t rfl (ds_s109b H)
end
theorem ds_sslot {x1 : Int32} (q : ds_Q E R T U b nv a3 a4 a6 a7) {j r : Nat} (hj : j < U) (hz : ds_z a3 (j + 1) = r + 1)
    (hK : ∃ n, ∀ x7, wX_sumByTag_19 post x1 io bg (nI E) nc (nI T) tg (nI (ds_S nv U)) vl og ov gc fd ps a1 a2 a3 a4 a5 a6 a7 a8 n (ds_C (ds_w E x1 a3 a4 a5) nv a8 (j + 1)) (nI (j + 1) - 1) (nI (ds_t a4 (j + 1))) (nI (ds_P nv (j + 1))) (nI (ds_z a3 (j + 1)) - 1) x7 (nI (ds_S nv (j + 1)))) :
    ∃ n, ∀ x7, wX_sumByTag_19 post x1 io bg (nI E) nc (nI T) tg (nI (ds_S nv U)) vl og ov gc fd ps a1 a2 a3 a4 a5 a6 a7 a8 n (ds_C (ds_w E x1 a3 a4 a5) nv a8 j) (nI j - 1) (nI (ds_t a4 j)) (nI (ds_P nv j)) (nI (ds_z a3 j) - 1) x7 (nI (ds_S nv j)) := by
  have hR := ds_q_R q
  have hSU := ds_q_SU q
  have h01 : a3 j = 0 ∨ a3 j = 1 := ds_q_01 q (by obtain ⟨_, _, _, _, q5, _⟩ := q; omega)
  obtain ⟨_, _, q3, _, q5, q6, q7, q8, _, _, q11⟩ := q
  obtain ⟨p1, p2, p3, p4⟩ := q11 j hj
  have hS1 : ds_S nv (j + 1) = ds_S nv j + max 1 (nv j) := rfl
  have hS2 := ds_S_mono nv (show j + 1 ≤ U by omega)
  have hP1 : ds_P nv (j + 1) = ds_P nv j + nv j := rfl
  have hP2 := ds_P_mono nv (show j + 1 ≤ T by omega)
  have hC : ds_C (ds_w E x1 a3 a4 a5) nv a8 (j + 1) = cond (ds_w E x1 a3 a4 a5 j) (ds_v a8 (ds_P nv j) (ds_C (ds_w E x1 a3 a4 a5) nv a8 j) (nv j)) (ds_C (ds_w E x1 a3 a4 a5) nv a8 j) := rfl
  have hz2 := ds_z_le a3 (j + 1)
  have ht : a4 j = 2 → ds_t a4 j < 40 := by
    intro z
    have e1 := ds_t_s1 (a := a4) (e := j) z
    have e2 := ds_t_mono a4 (show j + 1 ≤ T by omega)
    omega
  have first : ∀ n, wX_sumByTag_126 post (wX_sumByTag_19 post x1 io bg (nI E) nc (nI T) tg (nI (ds_S nv U)) vl og ov gc fd ps a1 a2 a3 a4 a5 a6 a7 a8 n) x1 (ds_C (ds_w E x1 a3 a4 a5) nv a8 j) (nI j) (nI (ds_t a4 (j + 1))) (nI (ds_P nv j)) (nI r) (cond (ds_w E x1 a3 a4 a5 j) 1 0) (nI (ds_S nv j)) io bg (nI E) nc (nI T) tg (nI (ds_S nv U)) vl og ov gc fd ps a1 a2 a3 a4 a5 a6 a7 a8 →
      ∀ x7, wX_sumByTag_19 post x1 io bg (nI E) nc (nI T) tg (nI (ds_S nv U)) vl og ov gc fd ps a1 a2 a3 a4 a5 a6 a7 a8 (n + 1) (ds_C (ds_w E x1 a3 a4 a5) nv a8 j) (nI j - 1) (nI (ds_t a4 j)) (nI (ds_P nv j)) (nI (ds_z a3 j) - 1) x7 (nI (ds_S nv j)) := by
    intro n h x7
    refine pk_le (ds_S nv U) (ds_S nv j) (fun z => absurd z (by omega)) (fun _ => And.intro (pk_in (ds_S nv j) 112 (by omega)) ?_)
    rw [nI_clamp (show ds_S nv j < 2 ^ 31 by omega)]
    refine br_f (by rw [p1]; rcases h01 with e | e <;> (rw [e]; decide)) (nm_r (ds_m1 j) (And.intro (pk_in (ds_S nv j) 112 (by omega)) ?_))
    rw [p1]
    refine br_c (fun z => ?_) (fun z => ?_)
    · refine ds_s59 (c := r) (by omega) (by omega) ht ?_ hz (by omega) h
      rw [ds_m1, show ds_z a3 j = r by have e := ds_z_s1 (a := a3) (e := j) z; omega]
    · refine ds_s59 (c := r) (by omega) (by omega) ht ?_ hz (by omega) h
      rw [show ds_z a3 j = r + 1 by have e := ds_z_s0 (a := a3) (e := j) z; omega, ds_p2]
      exact Int32.add_zero _
  rw [ds_p2, hz, ds_p2, hC, hP1, hS1] at hK
  obtain ⟨w, hw⟩ : ∃ w, ds_w E x1 a3 a4 a5 j = w := ⟨_, rfl⟩
  rw [hw] at hK first
  rcases Nat.eq_zero_or_pos (nv j) with z | z
  · obtain ⟨n, hn⟩ := hK
    rw [z] at hn
    have hn2 : ∀ x7, wX_sumByTag_19 post x1 io bg (nI E) nc (nI T) tg (nI (ds_S nv U)) vl og ov gc fd ps a1 a2 a3 a4 a5 a6 a7 a8 n (ds_C (ds_w E x1 a3 a4 a5) nv a8 j) (nI j) (nI (ds_t a4 (j + 1))) (nI (ds_P nv j)) (nI r) x7 (nI (ds_S nv j + 1)) := by
      cases w with
      | false => exact hn
      | true => exact hn
    exact ⟨n + 1, first n (ds_s126b (by omega) (by rcases p4 z with e | e <;> (rw [e]; decide)) (hn2 _))⟩
  · have base : ∃ n, wX_sumByTag_19 post x1 io bg (nI E) nc (nI T) tg (nI (ds_S nv U)) vl og ov gc fd ps a1 a2 a3 a4 a5 a6 a7 a8 n (cond w (ds_v a8 (ds_P nv j) (ds_C (ds_w E x1 a3 a4 a5) nv a8 j) (nv j - 1 + 1)) (ds_C (ds_w E x1 a3 a4 a5) nv a8 j)) (nI j) (nI (ds_t a4 (j + 1))) (nI (ds_P nv j + (nv j - 1 + 1))) (nI r) (cond w 1 0) (nI (ds_S nv j + (nv j - 1 + 1))) := by
      obtain ⟨n, hn⟩ := hK
      rw [show max 1 (nv j) = nv j by omega] at hn
      rw [show nv j - 1 + 1 = nv j by omega]
      exact ⟨n, hn _⟩
    obtain ⟨n, hn⟩ := ds_down (P := fun i => ∃ n, wX_sumByTag_19 post x1 io bg (nI E) nc (nI T) tg (nI (ds_S nv U)) vl og ov gc fd ps a1 a2 a3 a4 a5 a6 a7 a8 n (cond w (ds_v a8 (ds_P nv j) (ds_C (ds_w E x1 a3 a4 a5) nv a8 j) (i + 1)) (ds_C (ds_w E x1 a3 a4 a5) nv a8 j)) (nI j) (nI (ds_t a4 (j + 1))) (nI (ds_P nv j + (i + 1))) (nI r) (cond w 1 0) (nI (ds_S nv j + (i + 1)))) (m := nv j - 1) base
      (fun i hlt hn => Exists.elim hn (fun n hn => by
        refine ⟨n + 1, ?_⟩
        refine pk_le (ds_S nv U) (ds_S nv j + (i + 1)) (fun y => absurd y (by omega)) (fun _ => And.intro (pk_in (ds_S nv j + (i + 1)) 112 (by omega)) ?_)
        rw [nI_clamp (show ds_S nv j + (i + 1) < 2 ^ 31 by omega)]
        refine br_t (by rw [p2 (i + 1) (by omega) (by omega)]; decide) (ds_s126a (by omega) (by omega) (p3 (i + 1) (by omega)) ?_)
        cases w with
        | false => exact hn
        | true => exact hn)) 0 (Nat.zero_le _)
    refine ⟨n + 1, first n (ds_s126a (by omega) (by omega) (p3 0 z) ?_)⟩
    cases w with
    | false => exact hn
    | true => exact hn
theorem ds_C_tail {x1 : Int32} (q : ds_Q E R T U b nv a3 a4 a6 a7) : ∀ d, b E + d ≤ U → ds_C (ds_w E x1 a3 a4 a5) nv a8 (b E + d) = ds_C (ds_w E x1 a3 a4 a5) nv a8 (b E) := by
  intro d
  induction d with
  | zero => exact fun _ => rfl
  | succ d ih =>
    intro hd
    have hq := q
    obtain ⟨_, q2, q3, _, q5, _, _, _, q9, _, _⟩ := hq
    have hE : E < R := by
      rcases Nat.lt_or_ge E R with y | y
      · exact y
      · have e : E = R := by omega
        rw [e] at hd
        omega
    have h1 := (q9 E hE).1
    have h2 := (ds_q_rec q hE (k := 0) (by omega)).1
    have h3 := ds_z_mono a3 (show b E + 0 + 1 ≤ b E + d + 1 by omega)
    have e : ds_w E x1 a3 a4 a5 (b E + d) = false := decide_eq_false (fun t => absurd t.2.2 (by omega))
    have e2 : ds_C (ds_w E x1 a3 a4 a5) nv a8 (b E + d + 1) = cond (ds_w E x1 a3 a4 a5 (b E + d)) (ds_v a8 (ds_P nv (b E + d)) (ds_C (ds_w E x1 a3 a4 a5) nv a8 (b E + d)) (nv (b E + d))) (ds_C (ds_w E x1 a3 a4 a5) nv a8 (b E + d)) := rfl
    rw [e] at e2
    rw [show b E + (d + 1) = b E + d + 1 by omega, e2, ← ih (by omega)]
    rfl
theorem ds_sum {x1 : Int32} (q : ds_Q E R T U b nv a3 a4 a6 a7) (H : post (ds_C (ds_w E x1 a3 a4 a5) nv a8 (b E))) : wpX_sumByTag post (io, bg, nI E, nc, nI T, tg, nI (ds_S nv U), vl, og, ov, gc, fd, ps, a1, a2, a3, a4, a5, a6, a7, a8) x1 := by
  have hSU := ds_q_SU q
  have hq := q
  obtain ⟨_, q2, _, q4, q5, _, _, _, _, _, _⟩ := hq
  have hC := ds_C_tail (a5 := a5) (a8 := a8) (x1 := x1) q (U - b E) (by omega)
  rw [show b E + (U - b E) = U by omega] at hC
  rw [← hC] at H
  obtain ⟨n, hn⟩ := ds_down (P := fun j => ∃ n, ∀ x7, wX_sumByTag_19 post x1 io bg (nI E) nc (nI T) tg (nI (ds_S nv U)) vl og ov gc fd ps a1 a2 a3 a4 a5 a6 a7 a8 n (ds_C (ds_w E x1 a3 a4 a5) nv a8 j) (nI j - 1) (nI (ds_t a4 j)) (nI (ds_P nv j)) (nI (ds_z a3 j) - 1) x7 (nI (ds_S nv j))) (m := U)
    ⟨1, fun x7 => pk_le (ds_S nv U) (ds_S nv U) (fun _ => H) (fun z => absurd z (by omega))⟩
    (fun j hj hn => by
      obtain ⟨r, h1, h2, h3⟩ := ds_q_loc q R (Nat.le_refl R) j (by omega)
      have h4 := (ds_q_rec q h1 (k := j - b r) (by omega)).1
      rw [show b r + (j - b r) + 1 = j + 1 by omega] at h4
      exact ds_sslot q hj h4 hn) 0 (Nat.zero_le _)
  have hn2 : wX_sumByTag_19 post x1 io bg (nI E) nc (nI T) tg (nI (ds_S nv U)) vl og ov gc fd ps a1 a2 a3 a4 a5 a6 a7 a8 n 0 (nI 0 - 1) (nI 0) (nI 0) (nI 0 - 1) 0 (nI 0) := hn 0
  rw [ds_neg1] at hn2
  exact ⟨n, hn2⟩
/-! recordsWith -/
/-- count and last record inside record r: a, whether r has been counted -/
def ds_W (E : Nat) (H : Nat → Nat) (r : Nat) (a : Bool) (n last : Int32) : Prop :=
  (r < E → a = true → n = nI (H r + 1) ∧ last = nI r) ∧ (r < E → a = false → n = nI (H r) ∧ ∃ t, t ≤ r ∧ last = nI t - 1) ∧ (E ≤ r → n = nI (H E))
section
variable {lo hi : Int32} {J : Int32 → Int32 → Int32 → Int32 → Int32 → Prop}
theorem ds_r40a {n last z0 z1 : Int32} {v e r : Nat} {H : Nat → Nat} {a : Bool} (he : e < 112) (hv : v < 60) (h7 : a7 e = 2) (hx : z1 + z0 = nI r) (hr : r < 2 ^ 30) (hE : E < 2 ^ 30)
    (I : ds_W E H r a n last) (B : ∀ n' last', ds_W E H r (a || ds_h lo hi a8 v) n' last' → J n' (nI r) (nI (v + 1)) last' (nI (e + 1))) :
    wX_recordsWith_40 post J lo hi n (nI v) last (nI e) z0 z1 io bg (nI E) nc (nI T) tg (nI (ds_S nv U)) vl og ov gc fd ps a1 a2 a3 a4 a5 a6 a7 a8 := by
  obtain ⟨I1, I2, I3⟩ := I
  unfold wX_recordsWith_40
  refine nm_r hx (And.intro (pk_in e 112 he) ?_)
  rw [nI_clamp (show e < 2 ^ 31 by omega)]
  refine br_t h7 (And.intro (pk_in v 60 hv) ?_)
  rw [nI_clamp (show v < 2 ^ 31 by omega)]
  refine nm_e (nm_r (nI_1 v) ?_)
  refine br_c (fun y => nm_r (nI_1 e) (B n last ?_)) (fun y => ?_)
  · have e : ds_h lo hi a8 v = false := decide_eq_false (fun t => t.1 y)
    rw [e, Bool.or_false]
    exact ⟨I1, I2, I3⟩
  refine br_c (fun y2 => nm_r (nI_1 e) (B n last ?_)) (fun y2 => ?_)
  · have e : ds_h lo hi a8 v = false := decide_eq_false (fun t => t.2 y2)
    rw [e, Bool.or_false]
    exact ⟨I1, I2, I3⟩
  have e1 : ds_h lo hi a8 v = true := decide_eq_true ⟨y, y2⟩
  rw [e1, Bool.or_true] at B
  refine br_c (fun y3 => nm_r (nI_1 e) (B n last ?_)) (fun y3 => ?_)
  · refine ⟨fun h1 _ => ?_, fun _ h => absurd h (by decide), I3⟩
    cases a with
    | true => exact I1 h1 rfl
    | false =>
      obtain ⟨_, t, t1, t2⟩ := I2 h1 rfl
      have t3 := (ds_meq (c := t) (r := r) (by omega) hr).mp (by rw [← t2, ← y3])
      omega
  refine pk_le E r (fun y4 => nm_r (nI_1 e) (B n last ?_)) (fun y4 => ?_)
  · exact ⟨fun h1 => absurd h1 (by omega), fun h1 => absurd h1 (by omega), I3⟩
  · cases a with
    | true => exact absurd (I1 y4 rfl).2.symm y3
    | false =>
      refine nm_r (show n + 1 = nI (H r + 1) by rw [(I2 y4 rfl).1, nI_1]) (nm_r (nI_1 e) (B _ _ ?_))
      exact ⟨fun _ _ => ⟨rfl, rfl⟩, fun _ h => absurd h (by decide), fun h => absurd h (by omega)⟩
theorem ds_r40b {n last z0 z1 x5 : Int32} {e r : Nat} (he : e < 112) (h7 : ¬ a7 e = 2) (hx : z1 + z0 = nI r) (B : J n (nI r) x5 last (nI (e + 1))) :
    wX_recordsWith_40 post J lo hi n x5 last (nI e) z0 z1 io bg (nI E) nc (nI T) tg (nI (ds_S nv U)) vl og ov gc fd ps a1 a2 a3 a4 a5 a6 a7 a8 := by
  unfold wX_recordsWith_40
  refine nm_r hx (And.intro (pk_in e 112 he) ?_)
  rw [nI_clamp (show e < 2 ^ 31 by omega)]
  exact br_f h7 (nm_r (nI_1 e) B)
end
theorem ds_rslot {lo hi : Int32} (q : ds_Q E R T U b nv a3 a4 a6 a7) {j r : Nat} {H : Nat → Nat} (hj : j < U) (hz : ds_z a3 (j + 1) = r + 1) (a : Nat → Bool) (ha : ∀ k, k < nv j → a (k + 1) = (a k || ds_h lo hi a8 (ds_P nv j + k)))
    (hK : ∃ m, ∀ n last, ds_W E H r (a (nv j)) n last → wX_recordsWith_14 post lo hi io bg (nI E) nc (nI T) tg (nI (ds_S nv U)) vl og ov gc fd ps a1 a2 a3 a4 a5 a6 a7 a8 m n (nI (ds_z a3 (j + 1)) - 1) (nI (ds_P nv (j + 1))) last (nI (ds_S nv (j + 1)))) :
    ∃ m, ∀ n last, ds_W E H r (a 0) n last → wX_recordsWith_14 post lo hi io bg (nI E) nc (nI T) tg (nI (ds_S nv U)) vl og ov gc fd ps a1 a2 a3 a4 a5 a6 a7 a8 m n (nI (ds_z a3 j) - 1) (nI (ds_P nv j)) last (nI (ds_S nv j)) := by
  have hR := ds_q_R q
  have hSU := ds_q_SU q
  obtain ⟨_, _, q3, _, q5, q6, q7, q8, _, _, q11⟩ := q
  obtain ⟨p1, p2, p3, p4⟩ := q11 j hj
  have hS1 : ds_S nv (j + 1) = ds_S nv j + max 1 (nv j) := rfl
  have hS2 := ds_S_mono nv (show j + 1 ≤ U by omega)
  have hP1 : ds_P nv (j + 1) = ds_P nv j + nv j := rfl
  have hP2 := ds_P_mono nv (show j + 1 ≤ T by omega)
  have hz2 := ds_z_le a3 (j + 1)
  have first : ∀ m n last, (∀ z0 z1, z1 + z0 = nI r → wX_recordsWith_40 post (wX_recordsWith_14 post lo hi io bg (nI E) nc (nI T) tg (nI (ds_S nv U)) vl og ov gc fd ps a1 a2 a3 a4 a5 a6 a7 a8 m) lo hi n (nI (ds_P nv j)) last (nI (ds_S nv j)) z0 z1 io bg (nI E) nc (nI T) tg (nI (ds_S nv U)) vl og ov gc fd ps a1 a2 a3 a4 a5 a6 a7 a8) →
      wX_recordsWith_14 post lo hi io bg (nI E) nc (nI T) tg (nI (ds_S nv U)) vl og ov gc fd ps a1 a2 a3 a4 a5 a6 a7 a8 (m + 1) n (nI (ds_z a3 j) - 1) (nI (ds_P nv j)) last (nI (ds_S nv j)) := by
    intro m n last h
    refine pk_le (ds_S nv U) (ds_S nv j) (fun z => absurd z (by omega)) (fun _ => And.intro (pk_in (ds_S nv j) 112 (by omega)) ?_)
    rw [nI_clamp (show ds_S nv j < 2 ^ 31 by omega), p1]
    refine br_c (fun z => ?_) (fun z => ?_)
    · refine h _ _ ?_
      rw [ds_m1, show ds_z a3 j = r by have e := ds_z_s1 (a := a3) (e := j) z; omega]
    · refine h _ _ ?_
      rw [show ds_z a3 j = r + 1 by have e := ds_z_s0 (a := a3) (e := j) z; omega, ds_p2]
      exact Int32.add_zero _
  rw [hz, ds_p2, hP1, hS1] at hK
  rcases Nat.eq_zero_or_pos (nv j) with z | z
  · obtain ⟨m, hm⟩ := hK
    rw [z] at hm
    exact ⟨m + 1, fun n last hI => first m n last (fun z0 z1 hx => ds_r40b (by omega) (by rcases p4 z with e | e <;> (rw [e]; decide)) hx (hm n last hI))⟩
  · have base : ∃ m, ∀ n last, ds_W E H r (a (nv j - 1 + 1)) n last → wX_recordsWith_14 post lo hi io bg (nI E) nc (nI T) tg (nI (ds_S nv U)) vl og ov gc fd ps a1 a2 a3 a4 a5 a6 a7 a8 m n (nI r) (nI (ds_P nv j + (nv j - 1 + 1))) last (nI (ds_S nv j + (nv j - 1 + 1))) := by
      rw [show nv j - 1 + 1 = nv j by omega]
      rw [show max 1 (nv j) = nv j by omega] at hK
      exact hK
    obtain ⟨m, hm⟩ := ds_down (P := fun i => ∃ m, ∀ n last, ds_W E H r (a (i + 1)) n last → wX_recordsWith_14 post lo hi io bg (nI E) nc (nI T) tg (nI (ds_S nv U)) vl og ov gc fd ps a1 a2 a3 a4 a5 a6 a7 a8 m n (nI r) (nI (ds_P nv j + (i + 1))) last (nI (ds_S nv j + (i + 1)))) (m := nv j - 1) base
      (fun i hlt hn => Exists.elim hn (fun m hm => by
        refine ⟨m + 1, fun n last hI => ?_⟩
        refine pk_le (ds_S nv U) (ds_S nv j + (i + 1)) (fun y => absurd y (by omega)) (fun _ => And.intro (pk_in (ds_S nv j + (i + 1)) 112 (by omega)) ?_)
        rw [nI_clamp (show ds_S nv j + (i + 1) < 2 ^ 31 by omega)]
        refine br_f (by rw [p2 (i + 1) (by omega) (by omega)]; decide) (ds_r40a (by omega) (by omega) (p3 (i + 1) (by omega)) (Int32.add_zero _) (by omega) (by omega) hI (fun n' last' h' => ?_))
        rw [← ha (i + 1) (by omega)] at h'
        exact hm n' last' h')) 0 (Nat.zero_le _)
    refine ⟨m + 1, fun n last hI => first m n last (fun z0 z1 hx => ds_r40a (by omega) (by omega) (p3 0 z) hx (by omega) (by omega) hI (fun n' last' h' => ?_))⟩
    have e : a 1 = (a 0 || ds_h lo hi a8 (ds_P nv j)) := ha 0 z
    rw [← e] at h'
    exact hm n' last' h'
theorem ds_rec {lo hi : Int32} (q : ds_Q E R T U b nv a3 a4 a6 a7) (H : post (nI (ds_H (ds_h lo hi a8) b nv E))) : wpX_recordsWith post (io, bg, nI E, nc, nI T, tg, nI (ds_S nv U), vl, og, ov, gc, fd, ps, a1, a2, a3, a4, a5, a6, a7, a8) lo hi := by
  have hR := ds_q_R q
  have hSU := ds_q_SU q
  have hq := q
  obtain ⟨q1, q2, q3, q4, q5, _, _, _, q9, _, _⟩ := hq
  -- behind the ended records
  have tail : ∃ m, ∀ last, wX_recordsWith_14 post lo hi io bg (nI E) nc (nI T) tg (nI (ds_S nv U)) vl og ov gc fd ps a1 a2 a3 a4 a5 a6 a7 a8 m (nI ((ds_H (ds_h lo hi a8) b nv) E)) (nI E - 1) (nI (ds_P nv (b E))) last (nI (ds_S nv (b E))) := by
    have key := ds_down (P := fun d => b E ≤ d → ∃ m, ∀ n last, n = nI ((ds_H (ds_h lo hi a8) b nv) E) → wX_recordsWith_14 post lo hi io bg (nI E) nc (nI T) tg (nI (ds_S nv U)) vl og ov gc fd ps a1 a2 a3 a4 a5 a6 a7 a8 m n (nI (ds_z a3 d) - 1) (nI (ds_P nv d)) last (nI (ds_S nv d))) (m := U)
      (fun _ => ⟨1, fun n last hn => pk_le (ds_S nv U) (ds_S nv U) (fun _ => by rw [hn]; exact H) (fun z => absurd z (by omega))⟩)
      (fun j hj hn hb => by
        obtain ⟨r, h1, h2, h3⟩ := ds_q_loc q R (Nat.le_refl R) j (by omega)
        have h4 := (ds_q_rec q h1 (k := j - b r) (by omega)).1
        rw [show b r + (j - b r) + 1 = j + 1 by omega] at h4
        have h5 : E ≤ r := by
          rcases Nat.lt_or_ge r E with y | y
          · have t := ds_q_mono q (r := r + 1) (s := E) (by omega) q3
            omega
          · exact y
        obtain ⟨m, hm⟩ := ds_rslot (lo := lo) (hi := hi) (H := (ds_H (ds_h lo hi a8) b nv)) q hj h4 (fun k => ds_any (ds_h lo hi a8) (ds_P nv j) k) (fun k _ => rfl) (by
          obtain ⟨m, hm⟩ := hn (by omega)
          exact ⟨m, fun n last h => hm n last (h.2.2 h5)⟩)
        exact ⟨m, fun n last h => hm n last ⟨fun y => absurd y (by omega), fun y => absurd y (by omega), fun _ => h⟩⟩) (b E) q4 (Nat.le_refl _)
    obtain ⟨m, hm⟩ := key
    rw [ds_q_zb q E q3] at hm
    exact ⟨m, fun last => hm _ last rfl⟩
  -- the ended records
  have recs := ds_down (P := fun r => ∃ m, ∀ last, (∃ t, t ≤ r ∧ last = nI t - 1) → wX_recordsWith_14 post lo hi io bg (nI E) nc (nI T) tg (nI (ds_S nv U)) vl og ov gc fd ps a1 a2 a3 a4 a5 a6 a7 a8 m (nI ((ds_H (ds_h lo hi a8) b nv) r)) (nI r - 1) (nI (ds_P nv (b r))) last (nI (ds_S nv (b r)))) (m := E)
    (by
      obtain ⟨m, hm⟩ := tail
      exact ⟨m, fun last _ => hm last⟩)
    (fun r hr hn => by
      obtain ⟨p1, p2, _⟩ := q9 r (by omega)
      have hbU := ds_q_mono q (r := r + 1) (s := E) (by omega) q3
      have key := ds_down (P := fun j => b r ≤ j → ∃ m, ∀ n last, ds_W E (ds_H (ds_h lo hi a8) b nv) r (ds_any (ds_h lo hi a8) (ds_P nv (b r)) (ds_P nv j - ds_P nv (b r))) n last → wX_recordsWith_14 post lo hi io bg (nI E) nc (nI T) tg (nI (ds_S nv U)) vl og ov gc fd ps a1 a2 a3 a4 a5 a6 a7 a8 m n (nI (ds_z a3 j) - 1) (nI (ds_P nv j)) last (nI (ds_S nv j))) (m := b (r + 1))
        (fun _ => by
          obtain ⟨m, hm⟩ := hn
          have eH : (ds_H (ds_h lo hi a8) b nv) (r + 1) = cond (ds_any (ds_h lo hi a8) (ds_P nv (b r)) (ds_P nv (b (r + 1)) - ds_P nv (b r))) ((ds_H (ds_h lo hi a8) b nv) r + 1) ((ds_H (ds_h lo hi a8) b nv) r) := rfl
          rw [ds_q_zb q (r + 1) (by omega)]
          refine ⟨m, fun n last h => ?_⟩
          obtain ⟨w, hw⟩ : ∃ w, ds_any (ds_h lo hi a8) (ds_P nv (b r)) (ds_P nv (b (r + 1)) - ds_P nv (b r)) = w := ⟨_, rfl⟩
          rw [hw] at h eH
          cases w with
          | true =>
            obtain ⟨h1, h2⟩ := h.1 hr rfl
            have t := hm last ⟨r + 1, Nat.le_refl _, by rw [h2, ds_p2]⟩
            rw [eH] at t
            rw [h1]
            exact t
          | false =>
            obtain ⟨h1, t, h2, h3⟩ := h.2.1 hr rfl
            have t := hm last ⟨t, by omega, h3⟩
            rw [eH] at t
            rw [h1]
            exact t)
        (fun j hj hn hb => by
          have h4 := (ds_q_rec q (r := r) (by omega) (k := j - b r) (by omega)).1
          rw [show b r + (j - b r) + 1 = j + 1 by omega] at h4
          have hm := ds_P_mono nv hb
          have hP1 : ds_P nv (j + 1) = ds_P nv j + nv j := rfl
          have t := ds_rslot (lo := lo) (hi := hi) (H := (ds_H (ds_h lo hi a8) b nv)) q (by omega) h4 (fun k => ds_any (ds_h lo hi a8) (ds_P nv (b r)) (ds_P nv j + k - ds_P nv (b r)))
            (fun k _ => by
              show ds_any (ds_h lo hi a8) (ds_P nv (b r)) (ds_P nv j + (k + 1) - ds_P nv (b r)) = (ds_any (ds_h lo hi a8) (ds_P nv (b r)) (ds_P nv j + k - ds_P nv (b r)) || ds_h lo hi a8 (ds_P nv j + k))
              rw [show ds_P nv j + (k + 1) - ds_P nv (b r) = ds_P nv j + k - ds_P nv (b r) + 1 by omega]
              have e : ds_P nv (b r) + (ds_P nv j + k - ds_P nv (b r)) = ds_P nv j + k := by omega
              simp only [ds_any]
              rw [e])
            (hn (by omega))
          exact t) (b r) (by omega) (Nat.le_refl _)
      obtain ⟨m, hm⟩ := key
      rw [ds_q_zb q r (by omega), Nat.sub_self] at hm
      exact ⟨m, fun last hl => hm _ last ⟨fun _ h => absurd (show false = true from h) (by decide), fun _ _ => ⟨rfl, hl⟩, fun y => absurd y (by omega)⟩⟩) 0 (Nat.zero_le _)
  obtain ⟨m, hm⟩ := recs
  rw [q1] at hm
  have hn2 : wX_recordsWith_14 post lo hi io bg (nI E) nc (nI T) tg (nI (ds_S nv U)) vl og ov gc fd ps a1 a2 a3 a4 a5 a6 a7 a8 m 0 (nI 0 - 1) (nI 0) (nI 0 - 1) (nI 0) := hm _ ⟨0, Nat.le_refl 0, rfl⟩
  rw [ds_neg1] at hn2
  exact ⟨m, hn2⟩
end
end
section
/-- slots ahead of turn i of the law's first loop -/
def ds_i (b : Nat → Nat) (i : Nat) : Nat := b (i / 4) + min (i % 4) (b (i / 4 + 1) - b (i / 4))
theorem ds_i_lt {b : Nat → Nat} {i : Nat} (h4 : b (i / 4 + 1) ≤ b (i / 4) + 4) (h : i % 4 < b (i / 4 + 1) - b (i / 4)) : ds_i b i = b (i / 4) + i % 4 ∧ ds_i b (i + 1) = b (i / 4) + i % 4 + 1 := by
  unfold ds_i
  rcases Nat.lt_or_ge (i % 4) 3 with z | z
  · rw [show (i + 1) / 4 = i / 4 by omega, show (i + 1) % 4 = i % 4 + 1 by omega]
    omega
  · rw [show (i + 1) / 4 = i / 4 + 1 by omega, show (i + 1) % 4 = 0 by omega]
    omega
theorem ds_i_ge {b : Nat → Nat} {i : Nat} (h0 : b (i / 4) ≤ b (i / 4 + 1)) (h : b (i / 4 + 1) - b (i / 4) ≤ i % 4) : ds_i b (i + 1) = ds_i b i := by
  unfold ds_i
  rcases Nat.lt_or_ge (i % 4) 3 with z | z
  · rw [show (i + 1) / 4 = i / 4 by omega, show (i + 1) % 4 = i % 4 + 1 by omega]
    omega
  · rw [show (i + 1) / 4 = i / 4 + 1 by omega, show (i + 1) % 4 = 0 by omega]
    omega
/-- values of record r ahead of place k of its group g -/
def ds_ps (b nv : Nat → Nat) (r g k : Nat) : Nat := if g < b (r + 1) - b r then ds_P nv (b r + g) + min k (nv (b r + g)) - ds_P nv (b r) else ds_P nv (b (r + 1)) - ds_P nv (b r)
def ds_pi (b nv : Nat → Nat) (r i : Nat) : Nat := ds_ps b nv r (i / 4) (i % 4)
/-- the next turn, place k of group g being over -/
theorem ds_pi_s {b nv : Nat → Nat} {r i : Nat} (hb : b r < b (r + 1)) (hv : i / 4 < b (r + 1) - b r → nv (b r + i / 4) ≤ 4) : ds_pi b nv r (i + 1) = ds_ps b nv r (i / 4) (i % 4 + 1) := by
  unfold ds_pi
  rcases Nat.lt_or_ge (i % 4) 3 with z | z
  · rw [show (i + 1) / 4 = i / 4 by omega, show (i + 1) % 4 = i % 4 + 1 by omega]
  · rw [show (i + 1) / 4 = i / 4 + 1 by omega, show (i + 1) % 4 = 0 by omega]
    have e3 : i % 4 = 3 := by omega
    rw [e3]
    generalize i / 4 = g at hv ⊢
    have e1 : ds_P nv (b r + g + 1) = ds_P nv (b r + g) + nv (b r + g) := rfl
    unfold ds_ps
    rcases Nat.lt_or_ge g (b (r + 1) - b r) with y | y
    · have t := hv y
      rw [if_pos y]
      rcases Nat.lt_or_ge (g + 1) (b (r + 1) - b r) with x | x
      · rw [if_pos x, show b r + (g + 1) = b r + g + 1 by omega, e1]
        omega
      · rw [if_neg (by omega), show b (r + 1) = b r + g + 1 by omega, e1]
        omega
    · rw [if_neg (by omega), if_neg (by omega)]
theorem ds_m1le {m : Nat} (h : m < 2 ^ 30) : (-1 : Int32) ≤ nI m := by
  rw [Int32.le_iff_toInt_le, nI_toInt (by omega)]
  have t2 : (-1 : Int32).toInt = -1 := by decide
  omega
section
variable {post : Int32 → St1 → Prop} {io bg nc tg vl og ov gc fd ps : Int32} {a1 a2 a3 a4 a5 a6 a7 a8 : Nat → Int32} {E R T U : Nat} {b nv : Nat → Nat} {tag lo hi : Int32}
theorem ds_c264 (q : ds_Q E R T U b nv a3 a4 a6 a7) (H : ∀ f p, post 1 (io, bg, nI E, nc, nI T, tg, nI (ds_S nv U), vl, og, ov, gc, f, p, a1, a2, a3, a4, a5, a6, a7, a8)) : wL_counted_264 post (nI E) lo hi (nI (ds_H (ds_h lo hi a8) b nv E)) io bg (nI E) nc (nI T) tg (nI (ds_S nv U)) vl og ov gc fd ps a1 a2 a3 a4 a5 a6 a7 a8 := by
  have hR := ds_q_R q
  have hE : E < 2 ^ 31 := by
    obtain ⟨_, _, q3, _⟩ := q
    omega
  unfold wL_counted_264
  refine ds_rec q (br_t rfl (ds_groupsE hE ?_))
  dsimp only
  refine br_t rfl (ds_groupsM ?_)
  dsimp only
  exact br_t rfl (H _ _)
theorem ds_c167 {J : (Int32 → Int32 → Int32 → Int32 → Int32 → Int32 → Int32 → Int32 → Int32 → Int32 → Int32 → Int32 → Int32 → Int32 → Int32 → (Nat → Int32) → (Nat → Int32) → (Nat → Int32) → (Nat → Int32) → (Nat → Int32) → (Nat → Int32) → (Nat → Int32) → (Nat → Int32) → Prop)} {x5 : Int32} (q : ds_Q E R T U b nv a3 a4 a6 a7) {r : Nat} (hr : r < E) (H : ∀ f p, J (nI (ds_H (ds_h lo hi a8) b nv (r + 1))) (nI (r + 1)) io bg (nI E) nc (nI T) tg (nI (ds_S nv U)) vl og ov gc f p a1 a2 a3 a4 a5 a6 a7 a8) :
    ∃ n, ∀ f p, wL_counted_167 post J (nI E) tag lo hi x5 (nI (ds_H (ds_h lo hi a8) b nv r)) (nI r) n 0 0 io bg (nI E) nc (nI T) tg (nI (ds_S nv U)) vl og ov gc f p a1 a2 a3 a4 a5 a6 a7 a8 := by
  have hR := ds_q_R q
  have hq := q
  obtain ⟨_, _, q3, q4, q5, q6, q7, _, q9, q10, _⟩ := hq
  obtain ⟨p1, p2, _, _, p5⟩ := q9 r (by omega)
  have hbT := ds_q_le q (r := r + 1) (by omega)
  have base : ∃ n, ∀ f p, wL_counted_167 post J (nI E) tag lo hi x5 (nI (ds_H (ds_h lo hi a8) b nv r)) (nI r) n (cond (ds_any (ds_h lo hi a8) (ds_P nv (b r)) (ds_pi b nv r 16)) 1 0) (nI 16) io bg (nI E) nc (nI T) tg (nI (ds_S nv U)) vl og ov gc f p a1 a2 a3 a4 a5 a6 a7 a8 := by
    have e1 : ds_pi b nv r 16 = ds_P nv (b (r + 1)) - ds_P nv (b r) := by
      unfold ds_pi ds_ps
      rw [if_neg (by omega)]
    rw [e1]
    have eH : ds_H (ds_h lo hi a8) b nv (r + 1) = cond (ds_any (ds_h lo hi a8) (ds_P nv (b r)) (ds_P nv (b (r + 1)) - ds_P nv (b r))) (ds_H (ds_h lo hi a8) b nv r + 1) (ds_H (ds_h lo hi a8) b nv r) := rfl
    obtain ⟨w, hw⟩ : ∃ w, ds_any (ds_h lo hi a8) (ds_P nv (b r)) (ds_P nv (b (r + 1)) - ds_P nv (b r)) = w := ⟨_, rfl⟩
    rw [hw] at eH ⊢
    rw [eH] at H
    refine ⟨1, fun f p => pk_le 16 16 (fun _ => ?_) (fun z => absurd z (by omega))⟩
    cases w with
    | false => exact br_t rfl (nm_r (Int32.add_zero _) (nm_r (nI_1 r) (H f p)))
    | true => exact br_f (by decide) (nm_r (nI_1 _) (nm_r (nI_1 r) (H f p)))
  obtain ⟨n, hn⟩ := ds_down (P := fun i => ∃ n, ∀ f p, wL_counted_167 post J (nI E) tag lo hi x5 (nI (ds_H (ds_h lo hi a8) b nv r)) (nI r) n (cond (ds_any (ds_h lo hi a8) (ds_P nv (b r)) (ds_pi b nv r i)) 1 0) (nI i) io bg (nI E) nc (nI T) tg (nI (ds_S nv U)) vl og ov gc f p a1 a2 a3 a4 a5 a6 a7 a8) (m := 16) base
    (fun i hlt hn => Exists.elim hn (fun n hn => by
      refine ⟨n + 1, fun f p => pk_le 16 i (fun z => absurd z (by omega)) (fun _ => ?_)⟩
      have eg : nI i >>> ((2 : Int32) &&& 31) = nI (i / 4) := pk_shrN (by omega) _ 2 (by decide)
      have ek : nI i &&& 3 = nI (i % 4) := pk_andN (by omega) 2 (by decide)
      rw [eg, ek]
      have es := ds_pi_s (nv := nv) (r := r) (i := i) p1 (fun y => q10 _ (by omega))
      have e0 : ds_pi b nv r i = ds_ps b nv r (i / 4) (i % 4) := rfl
      rw [es] at hn
      rw [e0]
      have hk : i % 4 < 4 := by omega
      have hg : i / 4 < 4 := by omega
      generalize i / 4 = g at hn hg ⊢
      generalize i % 4 = k at hn hk ⊢
      refine ds_valueAt q hr (by omega) (by omega) (fun f p => ?_)
      dsimp only
      refine ds_values q hr (by omega) (fun f p => ?_)
      dsimp only
      by_cases hc : g < ds_n b a4 r ∧ k < nv (b r + g)
      · obtain ⟨g1, g2, g3, g4, g5, g6⟩ := ds_n_g q hr hc.1
        have hc2 := hc.2
        have hm := ds_P_mono nv (show b r ≤ b r + g by omega)
        have e2 : ds_ps b nv r g k = ds_P nv (b r + g) + k - ds_P nv (b r) := by
          unfold ds_ps
          rw [if_pos g2, show min k (nv (b r + g)) = k by omega]
        have e3 : ds_ps b nv r g (k + 1) = ds_P nv (b r + g) + k - ds_P nv (b r) + 1 := by
          unfold ds_ps
          rw [if_pos g2, show min (k + 1) (nv (b r + g)) = k + 1 by omega]
          omega
        have e4 : ds_any (ds_h lo hi a8) (ds_P nv (b r)) (ds_P nv (b r + g) + k - ds_P nv (b r) + 1) = (ds_any (ds_h lo hi a8) (ds_P nv (b r)) (ds_P nv (b r + g) + k - ds_P nv (b r)) || ds_h lo hi a8 (ds_P nv (b r + g) + k)) := by
          simp only [ds_any]
          rw [show ds_P nv (b r) + (ds_P nv (b r + g) + k - ds_P nv (b r)) = ds_P nv (b r + g) + k by omega]
        rw [e3, e4] at hn
        rw [e2, if_pos hc, if_pos hc.1]
        refine pk_le (nv (b r + g)) k (fun z => absurd z (by omega)) (fun _ => ?_)
        refine br_c (fun z => nm_r (nI_1 i) ?_) (fun z => ?_)
        · rw [show ds_h lo hi a8 (ds_P nv (b r + g) + k) = false from decide_eq_false (fun t => t.1 z), Bool.or_false] at hn
          exact hn _ _
        refine br_c (fun z2 => nm_r (nI_1 i) ?_) (fun z2 => nm_r (nI_1 i) ?_)
        · rw [show ds_h lo hi a8 (ds_P nv (b r + g) + k) = false from decide_eq_false (fun t => t.2 z2), Bool.or_false] at hn
          exact hn _ _
        · rw [show ds_h lo hi a8 (ds_P nv (b r + g) + k) = true from decide_eq_true ⟨z, z2⟩, Bool.or_true] at hn
          exact hn _ _
      · have e2 : ds_ps b nv r g (k + 1) = ds_ps b nv r g k := by
          unfold ds_ps
          by_cases y : g < b (r + 1) - b r
          · rw [if_pos y, if_pos y]
            have y2 : nv (b r + g) ≤ k := by
              rcases Nat.lt_or_ge k (nv (b r + g)) with x | x
              · exfalso
                by_cases e : a4 (b r) = 0
                · have e' := p5 e
                  have eg : g = 0 := by omega
                  rw [eg, Nat.add_zero] at x
                  omega
                · refine hc ⟨?_, x⟩
                  unfold ds_n
                  rw [if_neg e]
                  exact y
              · exact x
            omega
          · rw [if_neg y, if_neg y]
        rw [e2] at hn
        have hle : (if g < ds_n b a4 r then nI (nv (b r + g)) else -1) ≤ nI k := by
          by_cases y : g < ds_n b a4 r
          · have y2 : nv (b r + g) ≤ k := by
              rcases Nat.lt_or_ge k (nv (b r + g)) with x | x
              · exact absurd ⟨y, x⟩ hc
              · exact x
            rw [if_pos y]
            exact nI_le y2 (by omega)
          · rw [if_neg y]
            exact ds_m1le (by omega)
        exact br_t hle (nm_r (nI_1 i) (hn _ _)))) 0 (Nat.zero_le _)
  have e0 : ds_pi b nv r 0 = 0 := by
    unfold ds_pi ds_ps
    rw [if_pos (by omega), show min (0 % 4) (nv (b r + 0 / 4)) = 0 by omega]
    exact Nat.sub_self _
  rw [e0] at hn
  exact ⟨n, hn⟩
theorem ds_c155 {x5 : Int32} (q : ds_Q E R T U b nv a3 a4 a6 a7) (hs : ¬ tag = 0 → x5 = ds_C (ds_w E tag a3 a4 a5) nv a8 (b E)) (H : ∀ f p, post 1 (io, bg, nI E, nc, nI T, tg, nI (ds_S nv U), vl, og, ov, gc, f, p, a1, a2, a3, a4, a5, a6, a7, a8)) : ∃ n, ∀ f p, wL_counted_155 post (nI E) tag lo hi x5 n 0 0 io bg (nI E) nc (nI T) tg (nI (ds_S nv U)) vl og ov gc f p a1 a2 a3 a4 a5 a6 a7 a8 := by
  have hR := ds_q_R q
  have hE : E < 2 ^ 31 := by
    obtain ⟨_, _, q3, _⟩ := q
    omega
  exact ds_down (P := fun r => ∃ n, ∀ f p, wL_counted_155 post (nI E) tag lo hi x5 n (nI (ds_H (ds_h lo hi a8) b nv r)) (nI r) io bg (nI E) nc (nI T) tg (nI (ds_S nv U)) vl og ov gc f p a1 a2 a3 a4 a5 a6 a7 a8) (m := E)
    ⟨1, fun f p => pk_le E E (fun _ => br_c (fun _ => ds_c264 q H) (fun z => ds_sum q (br_t (hs z).symm (ds_c264 q H)))) (fun z => absurd z (by omega))⟩
    (fun r hr hn => Exists.elim hn (fun n hn => ⟨n + 1, fun f p => pk_le E r (fun z => absurd z (by omega)) (fun _ =>
      Exists.elim (ds_c167 (tag := tag) (x5 := x5) (post := post) q hr hn) (fun m hm => ⟨m, hm f p⟩))⟩)) 0 (Nat.zero_le _)
theorem ds_c109 {J : (Int32 → Int32 → Int32 → Int32 → Int32 → Int32 → Int32 → Int32 → Int32 → Int32 → Int32 → Int32 → Int32 → Int32 → Int32 → (Nat → Int32) → (Nat → Int32) → (Nat → Int32) → (Nat → Int32) → (Nat → Int32) → (Nat → Int32) → (Nat → Int32) → (Nat → Int32) → Prop)} {x6 c : Int32} (q : ds_Q E R T U b nv a3 a4 a6 a7) {r g i : Nat} (hr : r < E) (hg : g < ds_n b a4 r) {w : Bool} (H : ∀ f p, J (cond w (ds_v a8 (ds_P nv (b r + g)) c (nv (b r + g))) c) (nI (i + 1)) io bg (nI E) nc (nI T) tg (nI (ds_S nv U)) vl og ov gc f p a1 a2 a3 a4 a5 a6 a7 a8) :
    ∃ n, ∀ f p, wL_counted_109 post J (nI E) tag lo hi x6 (nI i) (nI r) (nI g) (nI (nv (b r + g))) (cond w 1 0) n c 0 io bg (nI E) nc (nI T) tg (nI (ds_S nv U)) vl og ov gc f p a1 a2 a3 a4 a5 a6 a7 a8 := by
  obtain ⟨g1, g2, g3, g4, g5, g6⟩ := ds_n_g q hr hg
  obtain ⟨n, hn⟩ := ds_down (P := fun k => ∃ n, ∀ f p, wL_counted_109 post J (nI E) tag lo hi x6 (nI i) (nI r) (nI g) (nI (nv (b r + g))) (cond w 1 0) n (cond w (ds_v a8 (ds_P nv (b r + g)) c k) c) (nI k) io bg (nI E) nc (nI T) tg (nI (ds_S nv U)) vl og ov gc f p a1 a2 a3 a4 a5 a6 a7 a8) (m := nv (b r + g))
    ⟨1, fun f p => pk_le (nv (b r + g)) (nv (b r + g)) (fun _ => nm_r (nI_1 i) (H f p)) (fun z => absurd z (by omega))⟩
    (fun k hk hn => Exists.elim hn (fun n hn => by
      refine ⟨n + 1, fun f p => pk_le (nv (b r + g)) k (fun z => absurd z (by omega)) (fun _ => ?_)⟩
      cases w with
      | false => exact br_t rfl (nm_r (Int32.add_zero _) (nm_r (nI_1 k) (hn f p)))
      | true =>
        refine br_f (by decide) (ds_valueAt q hr (by omega) (by omega) (fun f p => ?_))
        dsimp only
        rw [if_pos ⟨hg, hk⟩]
        exact nm_e (nm_r (nI_1 k) (hn f p)))) 0 (Nat.zero_le _)
  refine ⟨n, ?_⟩
  cases w with
  | false => exact hn
  | true => exact hn
theorem ds_c109m {J : (Int32 → Int32 → Int32 → Int32 → Int32 → Int32 → Int32 → Int32 → Int32 → Int32 → Int32 → Int32 → Int32 → Int32 → Int32 → (Nat → Int32) → (Nat → Int32) → (Nat → Int32) → (Nat → Int32) → (Nat → Int32) → (Nat → Int32) → (Nat → Int32) → (Nat → Int32) → Prop)} {x6 x11 c : Int32} {r g i : Nat} (H : J c (nI (i + 1)) io bg (nI E) nc (nI T) tg (nI (ds_S nv U)) vl og ov gc fd ps a1 a2 a3 a4 a5 a6 a7 a8) :
    ∃ n, wL_counted_109 post J (nI E) tag lo hi x6 (nI i) (nI r) (nI g) (-1) x11 n c 0 io bg (nI E) nc (nI T) tg (nI (ds_S nv U)) vl og ov gc fd ps a1 a2 a3 a4 a5 a6 a7 a8 :=
  ⟨1, br_t (by decide) (nm_r (nI_1 i) H)⟩
/-- one turn of the first loop -/
theorem ds_c50 {J : (Int32 → Int32 → Int32 → Int32 → Int32 → Int32 → Int32 → Int32 → Int32 → Int32 → Int32 → Int32 → Int32 → Int32 → Int32 → (Nat → Int32) → (Nat → Int32) → (Nat → Int32) → (Nat → Int32) → (Nat → Int32) → (Nat → Int32) → (Nat → Int32) → (Nat → Int32) → Prop)} {x5 x6 : Int32} (q : ds_Q E R T U b nv a3 a4 a6 a7) {i : Nat} (hr4 : i / 4 < E) (h5 : ¬ tag = 0 → x5 = ds_C (ds_w E tag a3 a4 a5) nv a8 (ds_i b i))
    (H : ∀ f p x, (¬ tag = 0 → x = ds_C (ds_w E tag a3 a4 a5) nv a8 (ds_i b (i + 1))) → J x (nI (i + 1)) io bg (nI E) nc (nI T) tg (nI (ds_S nv U)) vl og ov gc f p a1 a2 a3 a4 a5 a6 a7 a8) :
    wpX_values (fun r_177 u => match u with
      | (f1, f2, f3, f4, f5, f6, f7, f8, f9, f10, f11, f12, f13, c1, c2, c3, c4, c5, c6, c7, c8) => ((r_177 = (-1) → (wL_counted_50 post J (nI E) tag lo hi x5 x6 (nI i) (nI (i / 4)) (nI (i % 4)) r_177 1 f1 f2 f3 f4 f5 f6 f7 f8 f9 f10 f11 f12 f13 c1 c2 c3 c4 c5 c6 c7 c8)) ∧ (¬ r_177 = (-1) → (wL_counted_50 post J (nI E) tag lo hi x5 x6 (nI i) (nI (i / 4)) (nI (i % 4)) r_177 0 f1 f2 f3 f4 f5 f6 f7 f8 f9 f10 f11 f12 f13 c1 c2 c3 c4 c5 c6 c7 c8)))) (io, bg, nI E, nc, nI T, tg, nI (ds_S nv U), vl, og, ov, gc, fd, ps, a1, a2, a3, a4, a5, a6, a7, a8) (nI (i / 4)) (nI (i % 4)) := by
  have hq := q
  obtain ⟨_, _, q3, q4, q5, q6, q7, _, q9, q10, _⟩ := hq
  obtain ⟨p1, p2, _, _, p5⟩ := q9 (i / 4) (by omega)
  have hk : i % 4 < 4 := by omega
  refine ds_values q hr4 (by omega) (fun f p => ?_)
  dsimp only
  have hn4 := ds_n_le q hr4
  by_cases hg : i % 4 < ds_n b a4 (i / 4)
  · obtain ⟨g1, g2, g3, g4, g5, g6⟩ := ds_n_g q hr4 hg
    obtain ⟨e1, e2⟩ := ds_i_lt p2 g2
    have e3 := (ds_q_rec q g1 g2).1
    have e4 : ds_C (ds_w E tag a3 a4 a5) nv a8 (b (i / 4) + i % 4 + 1) = cond (ds_w E tag a3 a4 a5 (b (i / 4) + i % 4)) (ds_v a8 (ds_P nv (b (i / 4) + i % 4)) (ds_C (ds_w E tag a3 a4 a5) nv a8 (b (i / 4) + i % 4)) (nv (b (i / 4) + i % 4))) (ds_C (ds_w E tag a3 a4 a5) nv a8 (b (i / 4) + i % 4)) := rfl
    rw [e2, e4] at H
    rw [e1] at h5
    have hv := q10 _ g4
    rw [if_pos hg]
    generalize i / 4 = r at *
    generalize i % 4 = g at *
    refine br_f (ds_nm1 (by omega)) ?_
    unfold wL_counted_50
    refine ds_groups q hr4 (fun f p => ?_)
    dsimp only
    refine br_t (nI_lt hg (by omega)) ?_
    unfold wL_counted_66
    refine br_t rfl (pk_lt 4 (nv (b r + g)) (fun z => absurd z (by omega)) (fun _ => br_t (ds_m1le (by omega)) ?_))
    refine ds_label q hr4 (by omega) (fun f p => ?_)
    dsimp only
    -- no tag, or another one
    have off : (¬ tag = 0 → ds_w E tag a3 a4 a5 (b r + g) = false) → ∃ n, wL_counted_109 post J (nI E) tag lo hi x6 (nI i) (nI r) (nI g) (nI (nv (b r + g))) 0 n x5 0 io bg (nI E) nc (nI T) tg (nI (ds_S nv U)) vl og ov gc f p a1 a2 a3 a4 a5 a6 a7 a8 := by
      intro hw
      obtain ⟨n, hn⟩ := ds_c109 (tag := tag) (lo := lo) (hi := hi) (x6 := x6) (post := post) (J := J) (c := x5) (i := i) (w := false) q hr4 hg (fun f p => H f p _ (fun z => by rw [hw z]; exact h5 z))
      exact ⟨n, hn f p⟩
    by_cases h4 : a4 (b r + g) = 2
    · rw [if_pos ⟨hg, h4⟩]
      refine br_c (fun z => br_c (fun z2 => off (fun z3 => absurd z2 z3)) (fun z2 => ?_)) (fun z => off (fun _ => decide_eq_false (fun t => z t.2.1)))
      have hw : ds_w E tag a3 a4 a5 (b r + g) = true := decide_eq_true ⟨h4, z, by omega⟩
      obtain ⟨n, hn⟩ := ds_c109 (tag := tag) (lo := lo) (hi := hi) (x6 := x6) (post := post) (J := J) (c := x5) (i := i) (w := true) q hr4 hg (fun f p => H f p _ (fun z => by rw [hw, ← h5 z]))
      exact ⟨n, hn f p⟩
    · rw [if_neg (fun y => h4 y.2)]
      have hw : ds_w E tag a3 a4 a5 (b r + g) = false := decide_eq_false (fun t => h4 t.1)
      exact br_c (fun z => br_c (fun z2 => off (fun _ => hw)) (fun z2 => absurd z.symm z2)) (fun z => off (fun _ => hw))
  · have e1 : ds_C (ds_w E tag a3 a4 a5) nv a8 (ds_i b (i + 1)) = ds_C (ds_w E tag a3 a4 a5) nv a8 (ds_i b i) := by
      rcases Nat.lt_or_ge (i % 4) (b (i / 4 + 1) - b (i / 4)) with y | y
      · obtain ⟨e1, e2⟩ := ds_i_lt p2 y
        have e4 : ds_C (ds_w E tag a3 a4 a5) nv a8 (b (i / 4) + i % 4 + 1) = cond (ds_w E tag a3 a4 a5 (b (i / 4) + i % 4)) (ds_v a8 (ds_P nv (b (i / 4) + i % 4)) (ds_C (ds_w E tag a3 a4 a5) nv a8 (b (i / 4) + i % 4)) (nv (b (i / 4) + i % 4))) (ds_C (ds_w E tag a3 a4 a5) nv a8 (b (i / 4) + i % 4)) := rfl
        have e5 : nv (b (i / 4) + i % 4) = 0 := by
          by_cases e : a4 (b (i / 4)) = 0
          · have e' := p5 e
            rw [show i % 4 = 0 by omega, Nat.add_zero]
            exact e'.2
          · unfold ds_n at hg
            rw [if_neg e] at hg
            omega
        rw [e1, e2, e4, e5]
        cases ds_w E tag a3 a4 a5 (b (i / 4) + i % 4) with
        | false => rfl
        | true => rfl
      · rw [ds_i_ge (by omega) y]
    rw [e1] at H
    rw [if_neg hg]
    generalize i / 4 = r at *
    generalize i % 4 = g at *
    refine br_t rfl ?_
    unfold wL_counted_50
    refine ds_groups q hr4 (fun f p => ?_)
    dsimp only
    refine br_f (nI_nlt (by omega) (by omega)) ?_
    unfold wL_counted_66
    refine br_t rfl (br_f (by decide) (br_t (by decide) ?_))
    refine ds_label q hr4 (by omega) (fun f p => ?_)
    dsimp only
    have off : ∀ x11, ∃ n, wL_counted_109 post J (nI E) tag lo hi x6 (nI i) (nI r) (nI g) (-1) x11 n x5 0 io bg (nI E) nc (nI T) tg (nI (ds_S nv U)) vl og ov gc f p a1 a2 a3 a4 a5 a6 a7 a8 := fun x11 => ds_c109m (H f p x5 h5)
    exact br_c (fun z => br_c (fun z2 => off _) (fun z2 => off _)) (fun z => off _)
theorem ds_counted (q : ds_Q E R T U b nv a3 a4 a6 a7) (H : ∀ f p, post 1 (io, bg, nI E, nc, nI T, tg, nI (ds_S nv U), vl, og, ov, gc, f, p, a1, a2, a3, a4, a5, a6, a7, a8)) : wpL_counted post (io, bg, nI E, nc, nI T, tg, nI (ds_S nv U), vl, og, ov, gc, fd, ps, a1, a2, a3, a4, a5, a6, a7, a8) (nI E) tag lo hi := by
  have hR := ds_q_R q
  have hE : E < 2 ^ 20 := by
    obtain ⟨_, _, q3, _⟩ := q
    omega
  have e0 : (4 : Int32) * nI E = nI (4 * E) := pk_mul 4 E
  obtain ⟨n, hn⟩ := ds_down (P := fun i => ∃ n, ∀ f p x, (¬ tag = 0 → x = ds_C (ds_w E tag a3 a4 a5) nv a8 (ds_i b i)) → wL_counted_9 post (nI E) tag lo hi 0 n x (nI i) io bg (nI E) nc (nI T) tg (nI (ds_S nv U)) vl og ov gc f p a1 a2 a3 a4 a5 a6 a7 a8) (m := 4 * E)
    ⟨1, fun f p x hx => pk_le (4 * E) (4 * E) (fun _ => by
      have e1 : ds_i b (4 * E) = b E := by
        unfold ds_i
        rw [show 4 * E / 4 = E by omega, show 4 * E % 4 = 0 by omega]
        omega
      rw [e1] at hx
      obtain ⟨n, hn⟩ := ds_c155 (lo := lo) (hi := hi) (post := post) q hx H
      exact ⟨n, hn f p⟩) (fun z => absurd z (by omega)) e0⟩
    (fun i hlt hn => Exists.elim hn (fun n hn => ⟨n + 1, fun f p x hx => pk_le (4 * E) i (fun z => absurd z (by omega)) (fun _ =>
      nm_r (show nI i >>> ((2 : Int32) &&& 31) = nI (i / 4) from pk_shrN (by omega) _ 2 (by decide)) (nm_r (show nI i &&& 3 = nI (i % 4) from pk_andN (by omega) 2 (by decide)) (ds_c50 q (by omega) hx hn))) e0⟩)) 0 (Nat.zero_le _)
  have e1 : ds_i b 0 = 0 := by
    obtain ⟨q1, _⟩ := q
    unfold ds_i
    rw [show 0 / 4 = 0 by omega, show 0 % 4 = 0 by omega, q1]
    omega
  rw [e1] at hn
  exact ⟨n, hn _ _ _ (fun _ => rfl)⟩
end
end
section
def ds_u (f : Nat → Nat) (k x : Nat) : Nat → Nat := fun j => if j = k then x else f j
theorem ds_us {f : Nat → Nat} {k x : Nat} : ds_u f k x k = x := if_pos rfl
theorem ds_un {f : Nat → Nat} {k x j : Nat} (h : j ≠ k) : ds_u f k x j = f j := if_neg h
section
variable {E R T U : Nat} {b nv : Nat → Nat} {a3 a4 a6 a7 : Nat → Int32}
/-- a slot without values gets its value entry -/
theorem ds_Q_put (q : ds_Q E R T U b nv a3 a4 a6 a7) (hU : U < T) (h0 : nv U = 0) {z d : Int32} (hz : z = a3 U) (hd : d = 0 ∨ d = 1) : ds_Q E R T (U + 1) b nv a3 a4 (upd a6 (ds_S nv U) z) (upd a7 (ds_S nv U) d) := by
  obtain ⟨q1, q2, q3, q4, q5, q6, q7, q8, q9, q10, q11⟩ := q
  refine ⟨q1, q2, q3, by omega, by omega, q6, q7, q8, q9, q10, fun j hj => ?_⟩
  rcases Nat.lt_or_ge j U with y | y
  · obtain ⟨p1, p2, p3, p4⟩ := q11 j y
    have e1 : ds_S nv (j + 1) = ds_S nv j + max 1 (nv j) := rfl
    have e2 := ds_S_mono nv (show j + 1 ≤ U by omega)
    refine ⟨?_, fun k k1 k2 => ?_, fun k k2 => ?_, fun k2 => ?_⟩
    · rw [pk_un (show ds_S nv j ≠ ds_S nv U by omega)]
      exact p1
    · rw [pk_un (show ds_S nv j + k ≠ ds_S nv U by omega)]
      exact p2 k k1 k2
    · rw [pk_un (show ds_S nv j + k ≠ ds_S nv U by omega)]
      exact p3 k k2
    · rw [pk_un (show ds_S nv j ≠ ds_S nv U by omega)]
      exact p4 k2
  · have e : j = U := by omega
    rw [e]
    refine ⟨?_, fun k k1 k2 => absurd k2 (by omega), fun k k2 => absurd k2 (by omega), fun _ => ?_⟩
    · rw [pk_us]
      exact hz
    · rw [pk_us]
      exact hd
/-- a new slot, of the record that is being written -/
theorem ds_Q_tag {og : Nat} (q : ds_Q E R T T b nv a3 a4 a6 a7) (hT : T = b E + og) (ho : og < 4) (h52 : T < 52) (hR1 : 0 < og → R = E + 1) (h4 : 0 < og → ¬ a4 (b E) = 0) {z d : Int32} (hz0 : og = 0 → z = 0) (hz1 : 0 < og → z = 1) (ht : ds_t (upd a4 T d) (T + 1) ≤ 40) :
    ds_Q E (E + 1) (T + 1) T (ds_u b (E + 1) (T + 1)) (ds_u nv T 0) (upd a3 T z) (upd a4 T d) a6 a7 := by
  have hq := q
  obtain ⟨q1, q2, q3, q4, q5, q6, q7, q8, q9, q10, q11⟩ := hq
  have eb : ∀ r, r ≤ E → ds_u b (E + 1) (T + 1) r = b r := fun r hr => ds_un (by omega)
  have eb1 : ds_u b (E + 1) (T + 1) (E + 1) = T + 1 := ds_us
  have en : ∀ j, j < T → ds_u nv T 0 j = nv j := fun j hj => ds_un (by omega)
  have eS : ∀ j, j ≤ T → ds_S (ds_u nv T 0) j = ds_S nv j := fun j hj => ds_S_cong (fun i hi => en i (by omega))
  have eP : ds_P (ds_u nv T 0) T = ds_P nv T := ds_P_cong (fun i hi => en i (by omega))
  refine ⟨by rw [eb 0 (by omega)]; exact q1, eb1, by omega, by rw [eb E (by omega)]; exact q4, by omega, by omega, ?_, ht, ?_, ?_, ?_⟩
  · show ds_P (ds_u nv T 0) T + ds_u nv T 0 T ≤ 60
    rw [eP, ds_us]
    omega
  · intro r hr
    rcases Nat.lt_or_ge r E with y | y
    · obtain ⟨p1, p2, p3, p4, p5⟩ := q9 r (by omega)
      have hb := ds_q_mono q (r := r + 1) (s := E) (by omega) q3
      rw [eb r (by omega), eb (r + 1) (by omega)]
      refine ⟨p1, p2, ?_, fun j j1 j2 => ?_, fun e => ?_⟩
      · rw [pk_un (show b r ≠ T by omega)]
        exact p3
      · rw [pk_un (show j ≠ T by omega)]
        exact p4 j j1 j2
      · rw [pk_un (show b r ≠ T by omega)] at e
        rw [en (b r) (by omega)]
        exact p5 e
    · have er : r = E := by omega
      rw [er, eb E (by omega), eb1]
      rcases Nat.eq_zero_or_pos og with w | w
      · have e : b E = T := by omega
        rw [e]
        refine ⟨by omega, by omega, ?_, fun j j1 j2 => absurd j2 (by omega), fun _ => ⟨rfl, ds_us⟩⟩
        rw [pk_us]
        exact hz0 w
      · have eR := hR1 w
        obtain ⟨p1, p2, p3, p4, p5⟩ := q9 E (by omega)
        have e : b (E + 1) = T := by
          rw [← eR]
          exact q2
        refine ⟨by omega, by omega, ?_, fun j j1 j2 => ?_, fun x => ?_⟩
        · rw [pk_un (show b E ≠ T by omega)]
          exact p3
        · by_cases x : j = T
          · rw [x, pk_us]
            exact hz1 w
          · rw [pk_un x]
            exact p4 j j1 (by omega)
        · rw [pk_un (show b E ≠ T by omega)] at x
          exact absurd x (h4 w)
  · intro j hj
    by_cases x : j = T
    · rw [x, ds_us]
      omega
    · rw [en j (by omega)]
      exact q10 j (by omega)
  · intro j hj
    obtain ⟨p1, p2, p3, p4⟩ := q11 j hj
    rw [eS j (by omega), en j hj, pk_un (show j ≠ T by omega)]
    exact ⟨p1, p2, p3, p4⟩
/-- the last slot gets a value -/
theorem ds_Q_val {t : Nat} (q : ds_Q E R (t + 1) U b nv a3 a4 a6 a7) (hE : b E ≤ t) (hU : nv t = 0 → U = t) (hU2 : 0 < nv t → U = t + 1) (h4 : nv t < 4) (hP : ds_P nv (t + 1) < 60) (hb : ∀ r, r < R → a4 (b r) = 0 → b r ≠ t) {z : Int32} (hz0 : nv t = 0 → z = a3 t) (hz1 : 0 < nv t → z = 2) :
    ds_Q E R (t + 1) (t + 1) b (ds_u nv t (nv t + 1)) a3 a4 (upd a6 (ds_S nv U) z) (upd a7 (ds_S nv U) 2) ∧ ds_S (ds_u nv t (nv t + 1)) (t + 1) = ds_S nv U + 1 ∧ ds_P (ds_u nv t (nv t + 1)) (t + 1) = ds_P nv (t + 1) + 1 := by
  obtain ⟨q1, q2, q3, q4, q5, q6, q7, q8, q9, q10, q11⟩ := q
  have en : ∀ j, j ≠ t → ds_u nv t (nv t + 1) j = nv j := fun j hj => ds_un hj
  have en1 : ds_u nv t (nv t + 1) t = nv t + 1 := ds_us
  have eS : ∀ j, j ≤ t → ds_S (ds_u nv t (nv t + 1)) j = ds_S nv j := fun j hj => ds_S_cong (fun i hi => en i (by omega))
  have eP : ds_P (ds_u nv t (nv t + 1)) t = ds_P nv t := ds_P_cong (fun i hi => en i (by omega))
  have hP1 : ds_P nv (t + 1) = ds_P nv t + nv t := rfl
  have hS1 : ds_S nv (t + 1) = ds_S nv t + max 1 (nv t) := rfl
  have hU3 : t ≤ U := by
    rcases Nat.eq_zero_or_pos (nv t) with w | w
    · have := hU w
      omega
    · have := hU2 w
      omega
  have e0 : ds_S nv U = ds_S nv t + nv t := by
    rcases Nat.eq_zero_or_pos (nv t) with w | w
    · rw [hU w]
      omega
    · rw [hU2 w]
      omega
  have eP2 : ds_P (ds_u nv t (nv t + 1)) (t + 1) = ds_P nv (t + 1) + 1 := by
    show ds_P (ds_u nv t (nv t + 1)) t + ds_u nv t (nv t + 1) t = ds_P nv (t + 1) + 1
    rw [eP, en1]
    omega
  have eS2 : ds_S (ds_u nv t (nv t + 1)) (t + 1) = ds_S nv U + 1 := by
    show ds_S (ds_u nv t (nv t + 1)) t + max 1 (ds_u nv t (nv t + 1) t) = ds_S nv U + 1
    rw [eS t (by omega), en1, e0]
    omega
  refine ⟨⟨q1, q2, q3, by omega, by omega, q6, by rw [eP2]; omega, q8, ?_, ?_, ?_⟩, eS2, eP2⟩
  · intro r hr
    obtain ⟨p1, p2, p3, p4, p5⟩ := q9 r hr
    refine ⟨p1, p2, p3, p4, fun e => ?_⟩
    rw [en (b r) (hb r hr e)]
    exact p5 e
  · intro j hj
    by_cases x : j = t
    · rw [x, en1]
      omega
    · rw [en j x]
      exact q10 j hj
  · intro j hj
    rw [e0]
    by_cases x : j = t
    · rw [x, eS t (by omega), en1]
      refine ⟨?_, fun k k1 k2 => ?_, fun k k2 => ?_, fun k2 => absurd k2 (by omega)⟩
      · rcases Nat.eq_zero_or_pos (nv t) with w | w
        · rw [w, Nat.add_zero, pk_us]
          exact hz0 w
        · rw [pk_un (show ds_S nv t ≠ ds_S nv t + nv t by omega)]
          exact (q11 t (by have := hU2 w; omega)).1
      · have w : 0 < nv t := by omega
        by_cases y : k = nv t
        · rw [y, pk_us]
          exact hz1 w
        · rw [pk_un (show ds_S nv t + k ≠ ds_S nv t + nv t by omega)]
          exact (q11 t (by have := hU2 w; omega)).2.1 k k1 (by omega)
      · by_cases y : k = nv t
        · rw [y, pk_us]
        · have w : 0 < nv t := by omega
          rw [pk_un (show ds_S nv t + k ≠ ds_S nv t + nv t by omega)]
          exact (q11 t (by have := hU2 w; omega)).2.2.1 k (by omega)
    · obtain ⟨p1, p2, p3, p4⟩ := q11 j (by omega)
      have e1 : ds_S nv (j + 1) = ds_S nv j + max 1 (nv j) := rfl
      have e2 := ds_S_mono nv (show j + 1 ≤ t by omega)
      rw [eS j (by omega), en j x]
      refine ⟨?_, fun k k1 k2 => ?_, fun k k2 => ?_, fun k2 => ?_⟩
      · rw [pk_un (show ds_S nv j ≠ ds_S nv t + nv t by omega)]
        exact p1
      · rw [pk_un (show ds_S nv j + k ≠ ds_S nv t + nv t by omega)]
        exact p2 k k1 k2
      · rw [pk_un (show ds_S nv j + k ≠ ds_S nv t + nv t by omega)]
        exact p3 k k2
      · rw [pk_un (show ds_S nv j ≠ ds_S nv t + nv t by omega)]
        exact p4 k2
theorem ds_Q_E (q : ds_Q E R T T b nv a3 a4 a6 a7) (h : E < R) : ds_Q (E + 1) R T T b nv a3 a4 a6 a7 := by
  have t := ds_q_le q (r := E + 1) (by omega)
  obtain ⟨q1, q2, q3, q4, q5, q6, q7, q8, q9, q10, q11⟩ := q
  exact ⟨q1, q2, by omega, t, q5, q6, q7, q8, q9, q10, q11⟩
end
/-- the whole state: op, whether a record is being written; B records begun, N notes, og groups of the record that is being written, G groups in all -/
def ds_I (op B E N T U R og G : Nat) (ov : Int32) (b nv : Nat → Nat) (a3 a4 a6 a7 : Nat → Int32) : Prop :=
  ds_Q E R T U b nv a3 a4 a6 a7 ∧ B = E + op ∧ B ≤ 12 ∧ op ≤ 1 ∧ N ≤ B ∧ G ≤ 40 ∧ og ≤ 4 ∧ T ≤ G + E ∧ ds_t a4 T ≤ G ∧
  (op = 0 → R = E ∧ U = T) ∧
  (op = 1 → T = b E + og ∧ (og = 0 → R = E ∧ U = T) ∧ (0 < og → R = E + 1 ∧ ¬ a4 (b E) = 0 ∧ ov = nI (nv (T - 1)) ∧ (nv (T - 1) = 0 → U + 1 = T) ∧ (0 < nv (T - 1) → U = T)))
end
section
section
variable {post1 : St1 → Prop} {post : Int32 → St1 → Prop} {io bg en nc te tg ve vl gc fd ps ov : Int32} {a1 a2 a3 a4 a5 a6 a7 a8 : Nat → Int32} {B E N T U R og G : Nat} {b nv : Nat → Nat}
theorem ds_addV {V : Nat} {p0 p1 w : Int32} (hV : V < 112) (H : post1 (io, bg, en, nc, te, tg, nI (V + 1), vl, w, ov, gc, fd, ps, a1, a2, a3, a4, a5, upd a6 V p0, upd a7 V p1, a8)) : wpX_addValueEntry post1 (io, bg, en, nc, te, tg, nI V, vl, w, ov, gc, fd, ps, a1, a2, a3, a4, a5, a6, a7, a8) p0 p1 := by
  unfold wpX_addValueEntry
  dsimp only
  rw [nI_clamp (show V < 2 ^ 31 by omega)]
  exact And.intro (pk_in V 112 hV) (nm_e (And.intro (pk_in V 112 hV) (nm_e (nm_r (nI_1 V) H))))
theorem ds_addT {p0 p1 w : Int32} (hT : T < 52) (H : post1 (io, bg, en, nc, nI (T + 1), tg, ve, vl, w, ov, gc, fd, ps, a1, a2, upd a3 T p0, upd a4 T p1, a5, a6, a7, a8)) : wpX_addTagEntry post1 (io, bg, en, nc, nI T, tg, ve, vl, w, ov, gc, fd, ps, a1, a2, a3, a4, a5, a6, a7, a8) p0 p1 := by
  unfold wpX_addTagEntry
  dsimp only
  rw [nI_clamp (show T < 2 ^ 31 by omega)]
  exact And.intro (pk_in T 52 hT) (nm_e (And.intro (pk_in T 52 hT) (nm_e (nm_r (nI_1 T) H))))
/-- begin -/
theorem ds_begin1 {p0 p1 w : Int32} (hB : B < 12) (hN : N < 12) (H : ∀ N' c1 c2, N' ≤ N + 1 → post (nI B) (1, nI (B + 1), en, nI N', te, tg, ve, vl, 0, ov, gc, fd, ps, c1, c2, a3, a4, a5, a6, a7, a8)) :
    wpX_begin post (0, nI B, en, nI N, te, tg, ve, vl, w, ov, gc, fd, ps, a1, a2, a3, a4, a5, a6, a7, a8) p0 p1 := by
  unfold wpX_begin
  dsimp only
  refine br_t rfl (pk_lt B 12 (fun _ => And.intro (pk_in B 12 hB) (nm_e (br_c (fun _ => nm_r (nI_1 B) ?_) (fun _ => And.intro (pk_in N 12 hN) (nm_e (nm_r (nI_1 N) (nm_r (nI_1 B) ?_))))))) (fun z => absurd z (by omega)))
  · rw [nI_pred]
    exact H N _ _ (by omega)
  · rw [nI_pred]
    exact H (N + 1) _ _ (by omega)
theorem ds_begin0 {op : Nat} {p0 p1 w : Int32} (ho : op ≤ 1) (hB : B ≤ 12) (h : op = 1 ∨ B = 12) (H : post (-1) (nI op, nI B, en, nc, te, tg, ve, vl, w, ov, gc, fd, ps, a1, a2, a3, a4, a5, a6, a7, a8)) : wpX_begin post (nI op, nI B, en, nc, te, tg, ve, vl, w, ov, gc, fd, ps, a1, a2, a3, a4, a5, a6, a7, a8) p0 p1 := by
  unfold wpX_begin
  dsimp only
  exact pk_eq op 0 (fun z => pk_lt B 12 (fun y => absurd y (by omega)) (fun _ => H)) (fun _ => H)
/-- the last slot of the record that is being written -/
theorem ds_last {t : Nat} (q : ds_Q E (E + 1) (t + 1) U b nv a3 a4 a6 a7) (h : t + 1 = b E + og) (ho : 0 < og) : (og ≤ 1 → a3 t = 0) ∧ (1 < og → a3 t = 1) := by
  obtain ⟨_, q2, _, _, _, _, _, _, q9, _, _⟩ := q
  obtain ⟨_, _, p3, p4, _⟩ := q9 E (by omega)
  refine ⟨fun z => ?_, fun z => p4 t (by omega) (by omega)⟩
  rw [show t = b E by omega]
  exact p3
theorem ds_close (I : ds_I 1 B E N T U R og G ov b nv a3 a4 a6 a7) (H : ∀ c6 c7, ds_Q E R T T b nv a3 a4 c6 c7 → post1 (io, bg, en, nc, te, tg, nI (ds_S nv T), vl, nI og, ov, gc, fd, ps, a1, a2, a3, a4, a5, c6, c7, a8)) : wpX_closeGroup post1 (io, bg, en, nc, te, tg, nI (ds_S nv U), vl, nI og, ov, gc, fd, ps, a1, a2, a3, a4, a5, a6, a7, a8) := by
  obtain ⟨q, i2, i3, i4, i5, i6, i7, i8, i9, i10, i11⟩ := I
  obtain ⟨j1, j2, j3⟩ := i11 rfl
  unfold wpX_closeGroup
  dsimp only
  refine pk_le og 0 (fun z => ?_) (fun z => ?_)
  · have e := (j2 (by omega)).2
    rw [e] at q ⊢
    exact H _ _ q
  · obtain ⟨k1, k2, k3, k4, k5⟩ := j3 z
    obtain ⟨t, ht⟩ : ∃ t, T = t + 1 := ⟨T - 1, by omega⟩
    subst ht
    rw [Nat.add_sub_cancel] at k3 k4 k5
    subst k3 k1
    have hq := q
    obtain ⟨_, _, _, _, _, _, q7, _, _, q10, _⟩ := hq
    have hv := q10 t (by omega)
    have hS := ds_S_le nv t
    have hP := ds_P_mono nv (show t ≤ t + 1 by omega)
    refine pk_eq (nv t) 0 (fun y => ?_) (fun y => ?_)
    · have e : U = t := by
        have := k4 y
        omega
      rw [e] at q ⊢
      have key : ∀ z, z = a3 t → wX_closeGroup_28 post1 z io bg en nc te tg (nI (ds_S nv t)) vl (nI og) (nI (nv t)) gc fd ps a1 a2 a3 a4 a5 a6 a7 a8 := by
        intro z hz
        unfold wX_closeGroup_28
        refine ds_addV (by omega) ?_
        dsimp only
        have hq := ds_Q_put q (by omega) y hz (Or.inr rfl)
        have eS : ds_S nv (t + 1) = ds_S nv t + 1 := by
          show ds_S nv t + max 1 (nv t) = ds_S nv t + 1
          omega
        rw [eS] at H
        exact H _ _ hq
      obtain ⟨l0, l1⟩ := ds_last q j1 z
      exact pk_le og 1 (fun x => key 0 (l0 x).symm) (fun x => key 1 (l1 x).symm)
    · have e : U = t + 1 := k5 (by omega)
      rw [e] at q ⊢
      exact H _ _ q
/-- a new slot -/
theorem ds_I_tag (I : ds_I 1 B E N T U R og G ov b nv a3 a4 a6 a7) {c6 c7 : Nat → Int32} (q : ds_Q E R T T b nv a3 a4 c6 c7) (ho : og < 4) (hG : G < 40) {z d : Int32} (hz0 : og = 0 → z = 0) (hz1 : 0 < og → z = 1) (hd : ¬ d = 0) (ht : ds_t (upd a4 T d) (T + 1) ≤ ds_t a4 T + 1) :
    ds_I 1 B E N (T + 1) T (E + 1) (og + 1) (G + 1) 0 (ds_u b (E + 1) (T + 1)) (ds_u nv T 0) (upd a3 T z) (upd a4 T d) c6 c7 := by
  obtain ⟨_, i2, i3, i4, i5, i6, i7, i8, i9, i10, i11⟩ := I
  obtain ⟨j1, j2, j3⟩ := i11 rfl
  refine ⟨ds_Q_tag q j1 ho (by omega) (fun w => (j3 w).1) (fun w => (j3 w).2.1) hz0 hz1 (by omega), i2, i3, i4, i5, by omega, by omega, by omega, by omega, fun h => absurd h (by decide), fun _ => ?_⟩
  have eb : ds_u b (E + 1) (T + 1) E = b E := ds_un (by omega)
  rw [eb, Nat.add_sub_cancel, ds_us]
  refine ⟨by omega, fun h => absurd h (by omega), fun _ => ⟨rfl, ?_, rfl, fun _ => rfl, fun h => absurd h (by omega)⟩⟩
  rcases Nat.eq_zero_or_pos og with w | w
  · rw [show b E = T by omega, pk_us]
    exact hd
  · rw [pk_un (show b E ≠ T by omega)]
    exact (j3 w).2.1
theorem ds_group1 {p0 p1 : Int32} (I : ds_I 1 B E N T U R og G ov b nv a3 a4 a6 a7) (ho : og < 4) (hG : G < 40)
    (H : ∀ b' nv' c3 c4 c5 c6 c7, ds_I 1 B E N (T + 1) T (E + 1) (og + 1) (G + 1) 0 b' nv' c3 c4 c6 c7 → ds_P nv' (T + 1) = ds_P nv T →
      post (nI (og + 1)) (1, nI B, nI E, nI N, nI (T + 1), nI (ds_t c4 (T + 1)), nI (ds_S nv' T), nI (ds_P nv' (T + 1)), nI (og + 1), 0, nI (G + 1), fd, ps, a1, a2, c3, c4, c5, c6, c7, a8)) :
    wpX_group post (1, nI B, nI E, nI N, nI T, nI (ds_t a4 T), nI (ds_S nv U), nI (ds_P nv T), nI og, ov, nI G, fd, ps, a1, a2, a3, a4, a5, a6, a7, a8) p0 p1 := by
  unfold wpX_group
  dsimp only
  refine br_f (by decide) (pk_le 4 og (fun z => absurd z (by omega)) (fun _ => pk_lt G 40 (fun _ => ds_close I (fun c6 c7 q => ?_)) (fun z => absurd z (by omega))))
  dsimp only
  have key : ∀ z, (og = 0 → z = 0) → (0 < og → z = 1) → wX_group_43 post p0 p1 z 1 (nI B) (nI E) (nI N) (nI T) (nI (ds_t a4 T)) (nI (ds_S nv T)) (nI (ds_P nv T)) (nI og) ov (nI G) fd ps a1 a2 a3 a4 a5 c6 c7 a8 := by
    intro z hz0 hz1
    have gen : ∀ d, (d = 1 ∧ p0 = 0 ∨ d = 2 ∧ ¬ p0 = 0) → wX_group_52 post p0 p1 d z 1 (nI B) (nI E) (nI N) (nI T) (nI (ds_t a4 T)) (nI (ds_S nv T)) (nI (ds_P nv T)) (nI og) ov (nI G) fd ps a1 a2 a3 a4 a5 c6 c7 a8 := by
      intro d hd
      have hI := I
      obtain ⟨_, i2, i3, i4, i5, i6, i7, i8, i9, i10, i11⟩ := hI
      have en : ∀ j, j < T → ds_u nv T 0 j = nv j := fun j hj => ds_un (by omega)
      have eS : ds_S (ds_u nv T 0) T = ds_S nv T := ds_S_cong en
      have eP : ds_P (ds_u nv T 0) (T + 1) = ds_P nv T := by
        show ds_P (ds_u nv T 0) T + ds_u nv T 0 T = ds_P nv T
        rw [ds_P_cong en, ds_us]
        rfl
      have et : ds_t (upd a4 T d) T = ds_t a4 T := ds_t_cong (fun i hi => pk_un (by omega))
      unfold wX_group_52
      refine ds_addT (by omega) ?_
      dsimp only
      rcases hd with ⟨e1, e2⟩ | ⟨e1, e2⟩
      · have e3 : ds_t (upd a4 T d) (T + 1) = ds_t a4 T := by
          rw [ds_t_s0 (by rw [pk_us, e1]; decide), et]
        have h := H _ _ _ _ a5 c6 c7 (ds_I_tag (d := d) I q ho hG hz0 hz1 (by rw [e1]; decide) (by omega)) eP
        rw [e3, eS, eP] at h
        exact br_t e2 (nm_r (nI_1 og) (nm_r (nI_1 G) h))
      · have e3 : ds_t (upd a4 T d) (T + 1) = ds_t a4 T + 1 := by
          rw [ds_t_s1 (by rw [pk_us, e1]), et]
        have h := H _ _ _ _ (upd a5 (nI (ds_t a4 T)).toNatClampNeg p1) c6 c7 (ds_I_tag (d := d) I q ho hG hz0 hz1 (by rw [e1]; decide) (by omega)) eP
        rw [e3, eS, eP] at h
        exact br_f e2 (And.intro (pk_in (ds_t a4 T) 40 (by omega)) (nm_e (nm_r (nI_1 _) (nm_r (nI_1 og) (nm_r (nI_1 G) h)))))
    unfold wX_group_43
    exact br_c (fun y => gen 1 (Or.inl ⟨rfl, y⟩)) (fun y => gen 2 (Or.inr ⟨rfl, y⟩))
  have ho7 : og < 4 := ho
  exact pk_eq og 0 (fun y => key 0 (fun _ => rfl) (fun y2 => absurd y2 (by omega))) (fun y => key 1 (fun y2 => absurd y2 y) (fun _ => rfl))
theorem ds_group0 {op : Nat} {p0 p1 : Int32} (ho : op ≤ 1) (h4 : og ≤ 4) (hG : G ≤ 40) (h : op = 0 ∨ og = 4 ∨ G = 40) (H : post (-1) (nI op, bg, en, nc, te, tg, ve, vl, nI og, ov, nI G, fd, ps, a1, a2, a3, a4, a5, a6, a7, a8)) : wpX_group post (nI op, bg, en, nc, te, tg, ve, vl, nI og, ov, nI G, fd, ps, a1, a2, a3, a4, a5, a6, a7, a8) p0 p1 := by
  unfold wpX_group
  dsimp only
  exact pk_eq op 0 (fun _ => H) (fun z => pk_le 4 og (fun _ => H) (fun y => pk_lt G 40 (fun x => absurd x (by omega)) (fun _ => H)))
/-- a value -/
theorem ds_value1 {x : Int32} (I : ds_I 1 B E N T U R og G ov b nv a3 a4 a6 a7) (ho : 0 < og) (h4 : nv (T - 1) < 4) (hP : ds_P nv T < 60)
    (H : ∀ nv' c6 c7 c8, ds_I 1 B E N T T R og G (nI (nv (T - 1) + 1)) b nv' a3 a4 c6 c7 → ds_P nv' T = ds_P nv T + 1 →
      post (nI (nv (T - 1) + 1)) (1, nI B, nI E, nI N, nI T, nI (ds_t a4 T), nI (ds_S nv' T), nI (ds_P nv' T), nI og, nI (nv (T - 1) + 1), nI G, fd, ps, a1, a2, a3, a4, a5, c6, c7, c8)) :
    wpX_value post (1, nI B, nI E, nI N, nI T, nI (ds_t a4 T), nI (ds_S nv U), nI (ds_P nv T), nI og, ov, nI G, fd, ps, a1, a2, a3, a4, a5, a6, a7, a8) x := by
  obtain ⟨q, i2, i3, i4, i5, i6, i7, i8, i9, i10, i11⟩ := I
  obtain ⟨j1, j2, j3⟩ := i11 rfl
  obtain ⟨k1, k2, k3, k4, k5⟩ := j3 ho
  obtain ⟨t, ht⟩ : ∃ t, T = t + 1 := ⟨T - 1, by omega⟩
  subst ht
  rw [Nat.add_sub_cancel] at h4 H k3 k4 k5
  subst k3 k1
  have hU : nv t = 0 → U = t := by
    intro w
    have := k4 w
    omega
  have hb : ∀ r, r < E + 1 → a4 (b r) = 0 → b r ≠ t := by
    intro r hr e
    rcases Nat.lt_or_ge r E with y | y
    · have m := ds_q_mono q (r := r) (s := E) (by omega) (by omega)
      omega
    · rw [show r = E by omega] at e
      exact absurd e k2
  obtain ⟨l0, l1⟩ := ds_last q j1 ho
  have hS := ds_S_le nv U
  have hPU := ds_P_mono nv (show U ≤ t + 1 by obtain ⟨_, _, _, _, q5, _⟩ := q; exact q5)
  have hUT : U ≤ t + 1 := by
    obtain ⟨_, _, _, _, q5, _⟩ := q
    exact q5
  have key : ∀ z, (nv t = 0 → z = a3 t) → (0 < nv t → z = 2) → wX_value_58 post x z 1 (nI B) (nI E) (nI N) (nI (t + 1)) (nI (ds_t a4 (t + 1))) (nI (ds_S nv U)) (nI (ds_P nv (t + 1))) (nI og) (nI (nv t)) (nI G) fd ps a1 a2 a3 a4 a5 a6 a7 a8 := by
    intro z hz0 hz1
    obtain ⟨Q', eS, eP⟩ := ds_Q_val q (by omega) hU k5 h4 hP hb hz0 hz1
    unfold wX_value_58
    refine ds_addV (by omega) ?_
    dsimp only
    refine And.intro (pk_in (ds_P nv (t + 1)) 60 hP) (nm_e (nm_r (nI_1 _) (nm_r (nI_1 _) ?_)))
    have h := H _ _ _ (upd a8 (nI (ds_P nv (t + 1))).toNatClampNeg x) ⟨Q', i2, i3, i4, i5, i6, i7, i8, i9, fun h => absurd h (by decide), fun _ => ⟨j1, fun h => absurd h (by omega), fun _ => ⟨rfl, k2, by rw [Nat.add_sub_cancel, ds_us], fun h => absurd h (by rw [Nat.add_sub_cancel, ds_us]; omega), fun _ => rfl⟩⟩⟩ eP
    rw [eS, eP] at h
    exact h
  unfold wpX_value
  dsimp only
  refine br_f (by decide) (br_f (nI_ne0 ho (by omega)) (pk_le 4 (nv t) (fun w => absurd w (by omega)) (fun _ => pk_lt (ds_P nv (t + 1)) 60 (fun _ => ?_) (fun w => absurd w (by omega)))))
  exact pk_le (nv t) 0 (fun w => pk_le og 1 (fun v => key 0 (fun _ => (l0 v).symm) (fun y => absurd y (by omega))) (fun v => key 1 (fun _ => (l1 v).symm) (fun y => absurd y (by omega)))) (fun w => key 2 (fun y => absurd y (by omega)) (fun _ => rfl))
theorem ds_value0 {op v c : Nat} {x : Int32} (ho : op ≤ 1) (h4 : og ≤ 4) (hc : c ≤ 60) (hv : op = 1 → 0 < og → ov = nI v ∧ v ≤ 4) (h : op = 0 ∨ og = 0 ∨ v = 4 ∨ c = 60) (H : post (-1) (nI op, bg, en, nc, te, tg, ve, nI c, nI og, ov, gc, fd, ps, a1, a2, a3, a4, a5, a6, a7, a8)) : wpX_value post (nI op, bg, en, nc, te, tg, ve, nI c, nI og, ov, gc, fd, ps, a1, a2, a3, a4, a5, a6, a7, a8) x := by
  unfold wpX_value
  dsimp only
  refine pk_eq op 0 (fun _ => H) (fun z => pk_eq og 0 (fun _ => H) (fun y => ?_))
  obtain ⟨e, e2⟩ := hv (by omega) (by omega)
  exact pk_le 4 v (fun _ => H) (fun w => pk_lt c 60 (fun y => absurd y (by omega)) (fun _ => H)) rfl e
/-- end -/
theorem ds_end1 (I : ds_I 1 B E N T U R og G ov b nv a3 a4 a6 a7)
    (H : ∀ T' b' nv' c3 c4 c6 c7, ds_I 0 B (E + 1) N T' T' (E + 1) og G ov b' nv' c3 c4 c6 c7 → ds_P nv' T' = ds_P nv T →
      post (nI (E + 1)) (0, nI B, nI (E + 1), nI N, nI T', nI (ds_t c4 T'), nI (ds_S nv' T'), nI (ds_P nv' T'), nI og, ov, nI G, fd, ps, a1, a2, c3, c4, a5, c6, c7, a8)) :
    wpX_end post (1, nI B, nI E, nI N, nI T, nI (ds_t a4 T), nI (ds_S nv U), nI (ds_P nv T), nI og, ov, nI G, fd, ps, a1, a2, a3, a4, a5, a6, a7, a8) := by
  unfold wpX_end
  dsimp only
  refine br_f (by decide) (ds_close I (fun c6 c7 q => ?_))
  dsimp only
  obtain ⟨_, i2, i3, i4, i5, i6, i7, i8, i9, i10, i11⟩ := I
  obtain ⟨j1, j2, j3⟩ := i11 rfl
  have hq := q
  obtain ⟨_, _, _, _, _, _, q7, q8, _, _, _⟩ := hq
  refine pk_eq og 0 (fun y => ?_) (fun y => ?_)
  · have en : ∀ j, j < T → ds_u nv T 0 j = nv j := fun j hj => ds_un (by omega)
    have eS : ds_S (ds_u nv T 0) T = ds_S nv T := ds_S_cong en
    have eS2 : ds_S (ds_u nv T 0) (T + 1) = ds_S nv T + 1 := by
      show ds_S (ds_u nv T 0) T + max 1 (ds_u nv T 0 T) = ds_S nv T + 1
      rw [eS, ds_us]
      rfl
    have eP : ds_P (ds_u nv T 0) (T + 1) = ds_P nv T := by
      show ds_P (ds_u nv T 0) T + ds_u nv T 0 T = ds_P nv T
      rw [ds_P_cong en, ds_us]
      rfl
    have et : ds_t (upd a4 T 0) (T + 1) = ds_t a4 T := by
      rw [ds_t_s0 (by rw [pk_us]; decide), ds_t_cong (fun i hi => pk_un (by omega))]
    have qt := ds_Q_tag (d := 0) (z := 0) q j1 (by omega) (by omega) (fun w => absurd w (by omega)) (fun w => absurd w (by omega)) (fun _ => rfl) (fun w => absurd w (by omega)) (by omega)
    have qp := ds_Q_put qt (by omega) ds_us (z := 0) (d := 0) (by rw [pk_us]) (Or.inl rfl)
    have qe := ds_Q_E qp (by omega)
    rw [eS] at qe
    have hS := ds_S_le nv T
    refine ds_addT (by omega) ?_
    dsimp only
    refine ds_addV (by omega) ?_
    dsimp only
    have h := H (T + 1) _ _ _ _ _ _ ⟨qe, by omega, i3, by omega, i5, i6, i7, by omega, by omega, fun _ => ⟨rfl, rfl⟩, fun h => absurd h (by decide)⟩ eP
    rw [et, eS2, eP] at h
    exact nm_r (nI_1 E) h
  · obtain ⟨k1, k2, k3, k4, k5⟩ := j3 (by omega)
    subst k1
    exact nm_r (nI_1 E) (H T b nv a3 a4 c6 c7 ⟨ds_Q_E q (by omega), by omega, i3, by omega, i5, i6, i7, by omega, i9, fun _ => ⟨rfl, rfl⟩, fun h => absurd h (by decide)⟩ rfl)
theorem ds_end0 {w : Int32} (H : post (-1) (0, bg, en, nc, te, tg, ve, vl, w, ov, gc, fd, ps, a1, a2, a3, a4, a5, a6, a7, a8)) : wpX_end post (0, bg, en, nc, te, tg, ve, vl, w, ov, gc, fd, ps, a1, a2, a3, a4, a5, a6, a7, a8) := by
  unfold wpX_end
  dsimp only
  exact br_t rfl H
end
end
section
/-- what the law's next turn asks: any state that matches some picture -/
def ds_HJ (J : (Int32 → Int32 → Int32 → Int32 → Int32 → Int32 → Int32 → Int32 → Int32 → Int32 → Int32 → Int32 → Int32 → Int32 → Int32 → Int32 → Int32 → Int32 → Int32 → Int32 → (Nat → Int32) → (Nat → Int32) → (Nat → Int32) → (Nat → Int32) → (Nat → Int32) → (Nat → Int32) → (Nat → Int32) → (Nat → Int32) → Prop)) (i : Nat) : Prop :=
  ∀ (op B E N T U R og G : Nat) (ov hr fd ps : Int32) (b nv : Nat → Nat) (a1 a2 a3 a4 a5 a6 a7 a8 : Nat → Int32), ds_I op B E N T U R og G ov b nv a3 a4 a6 a7 → (0 < og → hr = ov) →
    J (nI B) (nI G) (nI (ds_P nv T)) (nI og) hr (nI op) (nI i) (nI op) (nI B) (nI E) (nI N) (nI T) (nI (ds_t a4 T)) (nI (ds_S nv U)) (nI (ds_P nv T)) (nI og) ov (nI G) fd ps a1 a2 a3 a4 a5 a6 a7 a8
section
variable {post : Int32 → Prop} {L : Nat} {xs : Nat → Int32} {J : (Int32 → Int32 → Int32 → Int32 → Int32 → Int32 → Int32 → Int32 → Int32 → Int32 → Int32 → Int32 → Int32 → Int32 → Int32 → Int32 → Int32 → Int32 → Int32 → Int32 → (Nat → Int32) → (Nat → Int32) → (Nat → Int32) → (Nat → Int32) → (Nat → Int32) → (Nat → Int32) → (Nat → Int32) → (Nat → Int32) → Prop)} {kc ks i op B E N T U R og G : Nat} {ov hr fd ps x10 x11 : Int32} {b nv : Nat → Nat} {a1 a2 a3 a4 a5 a6 a7 a8 : Nat → Int32}
theorem ds_l361 (HJ : ds_HJ J (i + 3)) (I : ds_I op B E N T U R og G ov b nv a3 a4 a6 a7) (h : 0 < og → hr = ov) : wL_law_361 post L xs J (nI B) (nI G) (nI (ds_P nv T)) (nI og) hr (nI op) (nI i) x10 x11 (nI E) kc ks (nI op) (nI B) (nI E) (nI N) (nI T) (nI (ds_t a4 T)) (nI (ds_S nv U)) (nI (ds_P nv T)) (nI og) ov (nI G) fd ps a1 a2 a3 a4 a5 a6 a7 a8 := by
  have q := I.1
  unfold wL_law_361
  refine ds_counted q (fun f p => ?_)
  dsimp only
  refine br_f (by decide) (ds_counted q (fun f p => ?_))
  dsimp only
  exact br_f (by decide) (nm_r (show nI i + 3 = nI (i + 3) from nI_add i 3) (HJ _ _ _ _ _ _ _ _ _ _ _ _ _ _ _ _ _ _ _ _ _ _ _ I h))
theorem ds_l349 (HJ : ds_HJ J (i + 3)) (I : ds_I op B E N T U R og G ov b nv a3 a4 a6 a7) (h : 0 < og → hr = ov) : wL_law_349 post L xs J (nI B) (nI G) (nI (ds_P nv T)) (nI og) hr (nI op) (nI i) x10 x11 kc ks (nI op) (nI B) (nI E) (nI N) (nI T) (nI (ds_t a4 T)) (nI (ds_S nv U)) (nI (ds_P nv T)) (nI og) ov (nI G) fd ps a1 a2 a3 a4 a5 a6 a7 a8 := by
  have hI := I
  obtain ⟨_, i2, i3, i4, _⟩ := hI
  unfold wL_law_349
  refine pk_eq op 0 (fun z => ?_) (fun z => ?_)
  · have t := ds_l361 (post := post) (L := L) (xs := xs) (kc := kc) (ks := ks) (fd := fd) (ps := ps) (x10 := x10) (x11 := x11) (a1 := a1) (a2 := a2) (a5 := a5) (a8 := a8) HJ I h
    have e : E = B := by omega
    rw [show wL_law_361 post L xs J (nI B) (nI G) (nI (ds_P nv T)) (nI og) hr (nI op) (nI i) x10 x11 (nI B) kc ks (nI op) (nI B) (nI E) (nI N) (nI T) (nI (ds_t a4 T)) (nI (ds_S nv U)) (nI (ds_P nv T)) (nI og) ov (nI G) fd ps a1 a2 a3 a4 a5 a6 a7 a8 = wL_law_361 post L xs J (nI B) (nI G) (nI (ds_P nv T)) (nI og) hr (nI op) (nI i) x10 x11 (nI E) kc ks (nI op) (nI B) (nI E) (nI N) (nI T) (nI (ds_t a4 T)) (nI (ds_S nv U)) (nI (ds_P nv T)) (nI og) ov (nI G) fd ps a1 a2 a3 a4 a5 a6 a7 a8 by rw [e]]
    exact t
  · have e : nI B - 1 = nI E := by
      rw [show B = E + 1 by omega, nI_pred]
    rw [e]
    exact ds_l361 HJ I h
/-! begin -/
theorem ds_l105a {z0 : Int32} (HJ : ds_HJ J (i + 3)) (I : ds_I op B E N T U R og G ov b nv a3 a4 a6 a7) (h : 0 < og → hr = ov) (ho : op = 0) (hB : B < 12) : wL_law_105 post L xs J (nI B) (nI G) (nI (ds_P nv T)) (nI og) hr (nI op) (nI i) x10 x11 1 z0 kc ks (nI op) (nI B) (nI E) (nI N) (nI T) (nI (ds_t a4 T)) (nI (ds_S nv U)) (nI (ds_P nv T)) (nI og) ov (nI G) fd ps a1 a2 a3 a4 a5 a6 a7 a8 := by
  subst ho
  obtain ⟨q, i2, i3, i4, i5, i6, i7, i8, i9, i10, i11⟩ := I
  obtain ⟨j1, j2⟩ := i10 rfl
  subst j1 j2
  have q2 : b R = U := by
    obtain ⟨_, q2, _⟩ := q
    exact q2
  unfold wL_law_105
  refine ds_begin1 hB (by omega) (fun N' c1 c2 hN => ?_)
  dsimp only
  refine br_f (by decide) ?_
  unfold wL_law_120
  refine br_t rfl (br_f (by decide) (nm_r (nI_1 B) ?_))
  exact ds_l349 (op := 1) (og := 0) (hr := 0) HJ ⟨q, by omega, by omega, by omega, by omega, i6, by omega, i8, i9, fun h => absurd h (by decide), fun _ => ⟨by omega, fun _ => ⟨rfl, rfl⟩, fun h => absurd h (by omega)⟩⟩ (fun h => absurd h (by omega))
theorem ds_l105b {z0 : Int32} (HJ : ds_HJ J (i + 3)) (I : ds_I op B E N T U R og G ov b nv a3 a4 a6 a7) (h : 0 < og → hr = ov) (ho : op = 1 ∨ B = 12) : wL_law_105 post L xs J (nI B) (nI G) (nI (ds_P nv T)) (nI og) hr (nI op) (nI i) x10 x11 0 z0 kc ks (nI op) (nI B) (nI E) (nI N) (nI T) (nI (ds_t a4 T)) (nI (ds_S nv U)) (nI (ds_P nv T)) (nI og) ov (nI G) fd ps a1 a2 a3 a4 a5 a6 a7 a8 := by
  have hI := I
  obtain ⟨_, i2, i3, i4, _⟩ := hI
  unfold wL_law_105
  refine ds_begin0 i4 i3 ho ?_
  dsimp only
  refine br_t rfl ?_
  unfold wL_law_120
  refine br_t rfl (br_t rfl ?_)
  exact ds_l349 HJ I h
theorem ds_l74 (HJ : ds_HJ J (i + 3)) (I : ds_I op B E N T U R og G ov b nv a3 a4 a6 a7) (h : 0 < og → hr = ov) : wL_law_74 post L xs J (nI B) (nI G) (nI (ds_P nv T)) (nI og) hr (nI op) (nI i) x10 x11 kc ks (nI op) (nI B) (nI E) (nI N) (nI T) (nI (ds_t a4 T)) (nI (ds_S nv U)) (nI (ds_P nv T)) (nI og) ov (nI G) fd ps a1 a2 a3 a4 a5 a6 a7 a8 := by
  have hI := I
  obtain ⟨_, i2, i3, i4, _⟩ := hI
  have no : (op = 1 ∨ B = 12) → wL_law_89 post L xs J (nI B) (nI G) (nI (ds_P nv T)) (nI og) hr (nI op) (nI i) x10 x11 kc ks (nI op) (nI B) (nI E) (nI N) (nI T) (nI (ds_t a4 T)) (nI (ds_S nv U)) (nI (ds_P nv T)) (nI og) ov (nI G) fd ps a1 a2 a3 a4 a5 a6 a7 a8 := by
    intro ho
    unfold wL_law_89 wL_law_90
    exact br_c (fun _ => ds_l105b HJ I h ho) (fun _ => ds_l105b HJ I h ho)
  unfold wL_law_74
  refine pk_eq op 0 (fun z => pk_le 12 B (fun y => no (by omega)) (fun y => ?_)) (fun z => no (by omega))
  unfold wL_law_90
  exact br_c (fun _ => ds_l105a HJ I h z y) (fun _ => ds_l105a HJ I h z y)
/-! group -/
theorem ds_l204a {z0 z1 : Int32} (HJ : ds_HJ J (i + 3)) (I : ds_I op B E N T U R og G ov b nv a3 a4 a6 a7) (h : 0 < og → hr = ov) (ho : op = 1) (h4 : og < 4) (hG : G < 40) : wL_law_204 post L xs J (nI B) (nI G) (nI (ds_P nv T)) (nI og) hr (nI op) (nI i) x10 x11 1 z0 z1 kc ks (nI op) (nI B) (nI E) (nI N) (nI T) (nI (ds_t a4 T)) (nI (ds_S nv U)) (nI (ds_P nv T)) (nI og) ov (nI G) fd ps a1 a2 a3 a4 a5 a6 a7 a8 := by
  subst ho
  unfold wL_law_204
  refine ds_group1 I h4 hG (fun b' nv' c3 c4 c5 c6 c7 I' eP => ?_)
  dsimp only
  refine br_f (by decide) ?_
  unfold wL_law_220
  refine br_t (nI_1 og).symm (br_f (by decide) (nm_r (nI_1 og) (nm_r (nI_1 G) ?_)))
  have t := ds_l349 (post := post) (L := L) (xs := xs) (kc := kc) (ks := ks) (fd := fd) (ps := ps) (x10 := x10) (x11 := x11) (a1 := a1) (a2 := a2) (a5 := c5) (a8 := a8) (hr := 0) HJ I' (fun _ => rfl)
  rw [← eP]
  exact t
theorem ds_l204b {z0 z1 : Int32} (HJ : ds_HJ J (i + 3)) (I : ds_I op B E N T U R og G ov b nv a3 a4 a6 a7) (h : 0 < og → hr = ov) (ho : op = 0 ∨ og = 4 ∨ G = 40) : wL_law_204 post L xs J (nI B) (nI G) (nI (ds_P nv T)) (nI og) hr (nI op) (nI i) x10 x11 0 z0 z1 kc ks (nI op) (nI B) (nI E) (nI N) (nI T) (nI (ds_t a4 T)) (nI (ds_S nv U)) (nI (ds_P nv T)) (nI og) ov (nI G) fd ps a1 a2 a3 a4 a5 a6 a7 a8 := by
  have hI := I
  obtain ⟨_, i2, i3, i4, i5, i6, i7, _⟩ := hI
  unfold wL_law_204
  refine ds_group0 i4 i7 i6 ho ?_
  dsimp only
  refine br_t rfl ?_
  unfold wL_law_220
  exact br_t rfl (br_t rfl (ds_l349 HJ I h))
theorem ds_l174a {x9 : Int32} (HJ : ds_HJ J (i + 3)) (I : ds_I op B E N T U R og G ov b nv a3 a4 a6 a7) (h : 0 < og → hr = ov) (ho : op = 1) (h4 : og < 4) (hG : G < 40) : wL_law_174 post L xs J (nI B) (nI G) (nI (ds_P nv T)) (nI og) hr (nI op) (nI i) x9 x10 x11 1 kc ks (nI op) (nI B) (nI E) (nI N) (nI T) (nI (ds_t a4 T)) (nI (ds_S nv U)) (nI (ds_P nv T)) (nI og) ov (nI G) fd ps a1 a2 a3 a4 a5 a6 a7 a8 := by
  have key : ∀ z, wL_law_189 post L xs J (nI B) (nI G) (nI (ds_P nv T)) (nI og) hr (nI op) (nI i) x9 x10 x11 1 z kc ks (nI op) (nI B) (nI E) (nI N) (nI T) (nI (ds_t a4 T)) (nI (ds_S nv U)) (nI (ds_P nv T)) (nI og) ov (nI G) fd ps a1 a2 a3 a4 a5 a6 a7 a8 := by
    intro z
    unfold wL_law_189
    exact br_c (fun _ => ds_l204a HJ I h ho h4 hG) (fun _ => ds_l204a HJ I h ho h4 hG)
  unfold wL_law_174
  exact br_c (fun _ => key _) (fun _ => key _)
theorem ds_l173 {x9 : Int32} (HJ : ds_HJ J (i + 3)) (I : ds_I op B E N T U R og G ov b nv a3 a4 a6 a7) (h : 0 < og → hr = ov) (ho : op = 0 ∨ og = 4 ∨ G = 40) : wL_law_173 post L xs J (nI B) (nI G) (nI (ds_P nv T)) (nI og) hr (nI op) (nI i) x9 x10 x11 kc ks (nI op) (nI B) (nI E) (nI N) (nI T) (nI (ds_t a4 T)) (nI (ds_S nv U)) (nI (ds_P nv T)) (nI og) ov (nI G) fd ps a1 a2 a3 a4 a5 a6 a7 a8 := by
  have key : ∀ z, wL_law_189 post L xs J (nI B) (nI G) (nI (ds_P nv T)) (nI og) hr (nI op) (nI i) x9 x10 x11 0 z kc ks (nI op) (nI B) (nI E) (nI N) (nI T) (nI (ds_t a4 T)) (nI (ds_S nv U)) (nI (ds_P nv T)) (nI og) ov (nI G) fd ps a1 a2 a3 a4 a5 a6 a7 a8 := by
    intro z
    unfold wL_law_189
    exact br_c (fun _ => ds_l204b HJ I h ho) (fun _ => ds_l204b HJ I h ho)
  unfold wL_law_173 wL_law_174
  exact br_c (fun _ => key _) (fun _ => key _)
/-! value -/
theorem ds_l281a (HJ : ds_HJ J (i + 3)) (I : ds_I op B E N T U R og G ov b nv a3 a4 a6 a7) (h : 0 < og → hr = ov) (ho : op = 1) (hog : 0 < og) (h4 : nv (T - 1) < 4) (hP : ds_P nv T < 60) : wL_law_281 post L xs J (nI B) (nI G) (nI (ds_P nv T)) (nI og) hr (nI op) (nI i) x10 x11 1 kc ks (nI op) (nI B) (nI E) (nI N) (nI T) (nI (ds_t a4 T)) (nI (ds_S nv U)) (nI (ds_P nv T)) (nI og) ov (nI G) fd ps a1 a2 a3 a4 a5 a6 a7 a8 := by
  subst ho
  have hI := I
  obtain ⟨_, i2, i3, i4, i5, i6, i7, i8, i9, i10, i11⟩ := hI
  have e1 : hr = nI (nv (T - 1)) := by
    rw [h hog]
    exact ((i11 rfl).2.2 hog).2.2.1
  have e2 : hr + 1 = nI (nv (T - 1) + 1) := by
    rw [e1, nI_1]
  unfold wL_law_281
  refine ds_value1 I hog h4 hP (fun nv' c6 c7 c8 I' eP => ?_)
  dsimp only
  refine br_f (by decide) ?_
  unfold wL_law_302
  refine br_t e2.symm (br_f (by decide) (nm_r e2 (nm_r (nI_1 _) ?_)))
  have t := ds_l349 (post := post) (L := L) (xs := xs) (kc := kc) (ks := ks) (fd := fd) (ps := ps) (x10 := x10) (x11 := x11) (a1 := a1) (a2 := a2) (a5 := a5) (a8 := c8) (hr := nI (nv (T - 1) + 1)) HJ I' (fun _ => rfl)
  rw [← eP]
  exact t
theorem ds_l280 (HJ : ds_HJ J (i + 3)) (I : ds_I op B E N T U R og G ov b nv a3 a4 a6 a7) (h : 0 < og → hr = ov) (ho : op = 0 ∨ og = 0 ∨ nv (T - 1) = 4 ∨ ds_P nv T = 60) : wL_law_280 post L xs J (nI B) (nI G) (nI (ds_P nv T)) (nI og) hr (nI op) (nI i) x10 x11 kc ks (nI op) (nI B) (nI E) (nI N) (nI T) (nI (ds_t a4 T)) (nI (ds_S nv U)) (nI (ds_P nv T)) (nI og) ov (nI G) fd ps a1 a2 a3 a4 a5 a6 a7 a8 := by
  have hI := I
  obtain ⟨q, i2, i3, i4, i5, i6, i7, i8, i9, i10, i11⟩ := hI
  obtain ⟨_, _, _, _, _, _, q7, _, _, q10, _⟩ := q
  unfold wL_law_280 wL_law_281
  refine ds_value0 (v := nv (T - 1)) i4 i7 q7 (fun o1 o2 => ?_) ho ?_
  · obtain ⟨j1, j2, j3⟩ := i11 o1
    exact ⟨(j3 o2).2.2.1, q10 _ (by omega)⟩
  · dsimp only
    refine br_t rfl ?_
    unfold wL_law_302
    exact br_t rfl (br_t rfl (ds_l349 HJ I h))
/-! end -/
theorem ds_lend (HJ : ds_HJ J (i + 3)) (I : ds_I op B E N T U R og G ov b nv a3 a4 a6 a7) (h : 0 < og → hr = ov) : wpX_end (fun r_180 u => match u with
    | (f1, f2, f3, f4, f5, f6, f7, f8, f9, f10, f11, f12, f13, c1, c2, c3, c4, c5, c6, c7, c8) => ((nI op = 0 → (wL_law_341 post L xs J (nI B) (nI G) (nI (ds_P nv T)) (nI og) hr (nI i) x10 x11 (-1) r_180 kc ks f1 f2 f3 f4 f5 f6 f7 f8 f9 f10 f11 f12 f13 c1 c2 c3 c4 c5 c6 c7 c8)) ∧ (¬ nI op = 0 → (wL_law_341 post L xs J (nI B) (nI G) (nI (ds_P nv T)) (nI og) hr (nI i) x10 x11 (nI B) r_180 kc ks f1 f2 f3 f4 f5 f6 f7 f8 f9 f10 f11 f12 f13 c1 c2 c3 c4 c5 c6 c7 c8)))) (nI op, nI B, nI E, nI N, nI T, nI (ds_t a4 T), nI (ds_S nv U), nI (ds_P nv T), nI og, ov, nI G, fd, ps, a1, a2, a3, a4, a5, a6, a7, a8) := by
  have hI := I
  obtain ⟨_, i2, i3, i4, i5, i6, i7, i8, i9, i10, i11⟩ := hI
  rcases Nat.eq_zero_or_pos op with z | z
  · subst z
    refine ds_end0 ?_
    dsimp only
    refine br_t rfl ?_
    unfold wL_law_341
    exact br_t rfl (ds_l349 (op := 0) HJ I h)
  · have z1 : op = 1 := by omega
    subst z1
    refine ds_end1 I (fun T' b' nv' c3 c4 c6 c7 I' eP => ?_)
    dsimp only
    refine br_f (by decide) ?_
    unfold wL_law_341
    refine br_t (by rw [i2]) ?_
    have t := ds_l349 (post := post) (L := L) (xs := xs) (kc := kc) (ks := ks) (fd := fd) (ps := ps) (x10 := x10) (x11 := x11) (a1 := a1) (a2 := a2) (a5 := a5) (a8 := a8) (hr := hr) HJ I' h
    rw [← eP]
    exact t
end
end
section
section
variable {L : Nat} {xs : Nat → Int32} {kc ks i n op B E N T U R og G : Nat} {ov hr fd ps : Int32} {b nv : Nat → Nat} {a1 a2 a3 a4 a5 a6 a7 a8 : Nat → Int32}
theorem ds_step (hL : L ≤ 260) (hi : i ≤ L) (HJ : i + 3 ≤ L → ds_HJ (wL_law_27 (fun r => r = 1) L xs kc ks n) (i + 3)) (I : ds_I op B E N T U R og G ov b nv a3 a4 a6 a7) (h : 0 < og → hr = ov) :
    wL_law_27 (fun r => r = 1) L xs kc ks (n + 1) (nI B) (nI G) (nI (ds_P nv T)) (nI og) hr (nI op) (nI i) (nI op) (nI B) (nI E) (nI N) (nI T) (nI (ds_t a4 T)) (nI (ds_S nv U)) (nI (ds_P nv T)) (nI og) ov (nI G) fd ps a1 a2 a3 a4 a5 a6 a7 a8 := by
  refine pk_lt L (i + 3) (fun _ => rfl) (fun z => And.intro (pk_in i L (by omega)) ?_) rfl (nI_add i 3)
  refine nm_e (And.intro (pk_in (i + 1) L (by omega) (nI_1 i)) (nm_e (And.intro (pk_in (i + 2) L (by omega) (nI_add i 2)) (nm_e ?_))))
  have HJ2 := HJ (by omega)
  have hI := I
  obtain ⟨q, i2, i3, i4, i5, i6, i7, i8, i9, i10, i11⟩ := hI
  obtain ⟨_, _, _, _, _, q6, q7, _, _, q10, _⟩ := q
  refine br_c (fun _ => ds_l74 HJ2 I h) (fun _ => br_c (fun _ => ds_l74 HJ2 I h) (fun _ => br_c (fun _ => br_c (fun _ => ds_lend HJ2 I h) (fun _ => ?_)) (fun _ => ?_)))
  · refine pk_eq op 0 (fun y => ds_l280 HJ2 I h (by omega)) (fun y => pk_le og 0 (fun y2 => ds_l280 HJ2 I h (by omega)) (fun y2 => ?_))
    obtain ⟨j1, j2, j3⟩ := i11 (by omega)
    have e1 : hr = nI (nv (T - 1)) := by
      rw [h y2]
      exact (j3 y2).2.2.1
    have e2 := q10 (T - 1) (by omega)
    exact pk_le 4 (nv (T - 1)) (fun y3 => ds_l280 HJ2 I h (by omega)) (fun y3 => pk_le 60 (ds_P nv T) (fun y4 => ds_l280 HJ2 I h (by omega)) (fun y4 => ds_l281a HJ2 I h (by omega) y2 y3 y4)) rfl e1
  · exact pk_eq op 0 (fun y => ds_l173 HJ2 I h (by omega)) (fun y => pk_le 4 og (fun y2 => ds_l173 HJ2 I h (by omega)) (fun y2 => pk_le 40 G (fun y3 => ds_l173 HJ2 I h (by omega)) (fun y3 => ds_l174a HJ2 I h (by omega) y2 y3)))
end
theorem ds_main {L kc ks : Nat} {xs : Nat → Int32} (hL : L ≤ 260) : ∀ n i, i ≤ L → L < n + i → ds_HJ (wL_law_27 (fun r => r = 1) L xs kc ks n) i := by
  intro n
  induction n with
  | zero =>
    intro i h1 h2
    omega
  | succ n ih =>
    intro i h1 h2 op B E N T U R og G ov hr fd ps b nv a1 a2 a3 a4 a5 a6 a7 a8 I h
    exact ds_step hL h1 (fun h3 => ih (i + 3) h3 (by omega)) I h
theorem ds_I0 : ds_I 0 0 0 0 0 0 0 0 0 0 (fun _ => 0) (fun _ => 0) (fun _ => 0) (fun _ => 0) (fun _ => 0) (fun _ => 0) :=
  ⟨⟨rfl, rfl, Nat.le_refl _, Nat.le_refl _, Nat.le_refl _, by omega, by decide, by decide, fun r h => absurd h (by omega), fun j h => absurd h (by omega), fun j h => absurd h (by omega)⟩, rfl, by omega, by omega, by omega, by omega, by omega, by omega, by decide, fun _ => ⟨rfl, rfl⟩, fun h => absurd h (by decide)⟩
theorem i_vc (xs : Nat → Int32) (L : Nat) (hL : L ≤ 260) : wpL_law (fun r => r = 1) L xs := by
  refine ⟨8, 452, by omega, by omega, ?_⟩
  refine ⟨by omega, by omega, by omega, by omega, by omega, by omega, by omega, by omega, by omega, by omega, by omega, by omega, by omega, by omega, by omega, by omega, ?_⟩
  exact ⟨L + 1, ds_main hL (L + 1) 0 (by omega) (by omega) 0 0 0 0 0 0 0 0 0 0 0 0 0 (fun _ => 0) (fun _ => 0) _ _ _ _ _ _ _ _ ds_I0 (fun h => absurd h (by omega))⟩
end
