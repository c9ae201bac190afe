section
/-! indices, signs, the picture of the network -/
theorem ds_ix (x y : Nat) : nI x * 12 + nI y = nI (x * 12 + y) := by
  rw [show (12 : Int32) = nI 12 from rfl, pk_mul, nI_add]
theorem ds_ix10 (x y : Nat) : nI x * 10 + nI y = nI (x * 10 + y) := by
  rw [show (10 : Int32) = nI 10 from rfl, pk_mul, nI_add]
theorem ds_s0 : (false = true) ↔ ¬ nI 0 ≤ 0 :=
  ⟨fun h => (by cases h), fun h => absurd (nI_le (Nat.le_refl 0) (by decide)) h⟩
theorem ds_sg {m : Nat} (h : m < 2 ^ 31) : decide (0 < m) = true ↔ ¬ nI m ≤ 0 := by
  rw [decide_eq_true_iff]
  constructor
  · intro z
    exact nI_nle z h
  · intro z
    rcases Nat.eq_zero_or_pos m with e | e
    · subst e
      exact absurd (nI_le (Nat.le_refl 0) (by decide)) z
    · exact e
def ds_nd (x : Nat) : Prop := x = 0 ∨ x = 1 ∨ x = 10 ∨ x = 11
def ds_ndb (x : Nat) : Bool := decide (x = 0) || decide (x = 1) || decide (x = 10) || decide (x = 11)
theorem ds_ndI {x : Nat} (h : ds_ndb x = true) : ds_nd x := by
  unfold ds_ndb at h
  simp only [Bool.or_eq_true, decide_eq_true_eq] at h
  unfold ds_nd
  omega
theorem ds_nd12 {x : Nat} (h : ds_nd x) : x < 12 := by
  unfold ds_nd at h
  omega
theorem ds_nd0 : ds_nd 0 := Or.inl rfl
theorem ds_nd1 : ds_nd 1 := Or.inr (Or.inl rfl)
theorem ds_nd10 : ds_nd 10 := Or.inr (Or.inr (Or.inl rfl))
theorem ds_nd11 : ds_nd 11 := Or.inr (Or.inr (Or.inr rfl))
def ds_up (q : Nat → Nat) (k v : Nat) : Nat → Nat := fun j => if j = k then v else q j
/-- the sixteen cells of the network between the four nodes -/
def ds_R (a : Nat → Int32) (s0 s1 c d t r0 r1 u : Nat) : Prop :=
  s0 + s1 + c + d + t + r0 + r1 + u < 2000000 ∧
  a 0 = nI 0 ∧ a 1 = nI c ∧ a 10 = nI r0 ∧ a 11 = nI 0 ∧
  a 12 = nI d ∧ a 13 = nI 0 ∧ a 22 = nI r1 ∧ a 23 = nI t ∧
  a 120 = nI s0 ∧ a 121 = nI s1 ∧ a 130 = nI 0 ∧ a 131 = nI 0 ∧
  a 132 = nI 0 ∧ a 133 = nI u ∧ a 142 = nI 0 ∧ a 143 = nI 0
/-- which cells are positive -/
def ds_g (s0 s1 c d t r0 r1 u : Bool) (x y : Nat) : Bool :=
  if x = 0 then (if y = 1 then c else if y = 10 then r0 else false)
  else if x = 1 then (if y = 0 then d else if y = 10 then r1 else if y = 11 then t else false)
  else if x = 10 then (if y = 0 then s0 else if y = 1 then s1 else false)
  else (if y = 1 then u else false)
theorem ds_Rg {a : Nat → Int32} {s0 s1 c d t r0 r1 u : Nat} (h : ds_R a s0 s1 c d t r0 r1 u) : ∀ x y, ds_nd x → ds_nd y →
    (ds_g (decide (0 < s0)) (decide (0 < s1)) (decide (0 < c)) (decide (0 < d)) (decide (0 < t)) (decide (0 < r0)) (decide (0 < r1)) (decide (0 < u)) x y = true ↔ ¬ a (x * 12 + y) ≤ 0) := by
  intro x y hx hy
  obtain ⟨hb, h0, h1, h10, h11, h12, h13, h22, h23, h120, h121, h130, h131, h132, h133, h142, h143⟩ := h
  rcases hx with rfl | rfl | rfl | rfl
  · rcases hy with rfl | rfl | rfl | rfl
    · show (false = true ↔ ¬ a 0 ≤ 0)
      rw [h0]; exact ds_s0
    · show (decide (0 < c) = true ↔ ¬ a 1 ≤ 0)
      rw [h1]; exact ds_sg (by omega)
    · show (decide (0 < r0) = true ↔ ¬ a 10 ≤ 0)
      rw [h10]; exact ds_sg (by omega)
    · show (false = true ↔ ¬ a 11 ≤ 0)
      rw [h11]; exact ds_s0
  · rcases hy with rfl | rfl | rfl | rfl
    · show (decide (0 < d) = true ↔ ¬ a 12 ≤ 0)
      rw [h12]; exact ds_sg (by omega)
    · show (false = true ↔ ¬ a 13 ≤ 0)
      rw [h13]; exact ds_s0
    · show (decide (0 < r1) = true ↔ ¬ a 22 ≤ 0)
      rw [h22]; exact ds_sg (by omega)
    · show (decide (0 < t) = true ↔ ¬ a 23 ≤ 0)
      rw [h23]; exact ds_sg (by omega)
  · rcases hy with rfl | rfl | rfl | rfl
    · show (decide (0 < s0) = true ↔ ¬ a 120 ≤ 0)
      rw [h120]; exact ds_sg (by omega)
    · show (decide (0 < s1) = true ↔ ¬ a 121 ≤ 0)
      rw [h121]; exact ds_sg (by omega)
    · show (false = true ↔ ¬ a 130 ≤ 0)
      rw [h130]; exact ds_s0
    · show (false = true ↔ ¬ a 131 ≤ 0)
      rw [h131]; exact ds_s0
  · rcases hy with rfl | rfl | rfl | rfl
    · show (false = true ↔ ¬ a 132 ≤ 0)
      rw [h132]; exact ds_s0
    · show (decide (0 < u) = true ↔ ¬ a 133 ≤ 0)
      rw [h133]; exact ds_sg (by omega)
    · show (false = true ↔ ¬ a 142 ≤ 0)
      rw [h142]; exact ds_s0
    · show (false = true ↔ ¬ a 143 ≤ 0)
      rw [h143]; exact ds_s0
/-! the search from the source, over a table of signs: (end, cameFrom, queue) -/
def ds_fy (g : Nat → Nat → Bool) (x y : Nat) (s : Nat × (Nat → Int32) × (Nat → Nat)) : Nat × (Nat → Int32) × (Nat → Nat) :=
  if 0 ≤ s.2.1 y then s else if g x y = true then (s.1 + 1, upd s.2.1 y (nI x), ds_up s.2.2 s.1 y) else s
def ds_fx (g : Nat → Nat → Bool) (x : Nat) (s : Nat × (Nat → Int32) × (Nat → Nat)) : Nat × (Nat → Int32) × (Nat → Nat) :=
  ds_fy g x 11 (ds_fy g x 10 (ds_fy g x 1 (ds_fy g x 0 s)))
def ds_fo (g : Nat → Nat → Bool) : Nat → Nat → Nat × (Nat → Int32) × (Nat → Nat) → Option (Nat → Int32)
  | 0, _, _ => none
  | n + 1, i, s => if s.1 ≤ i then some s.2.1 else if s.1 ≤ 8 ∧ ds_ndb (s.2.2 i) = true then ds_fo g n (i + 1) (ds_fx g (s.2.2 i) s) else none
def ds_f0 : Nat × (Nat → Int32) × (Nat → Nat) := (1, upd (fun _ => -1) 10 10, fun _ => 10)
theorem ds_fyl (g : Nat → Nat → Bool) (x y : Nat) (s : Nat × (Nat → Int32) × (Nat → Nat)) : (ds_fy g x y s).1 ≤ s.1 + 1 := by
  unfold ds_fy
  by_cases h : 0 ≤ s.2.1 y
  · rw [if_pos h]; omega
  · rw [if_neg h]
    by_cases k : g x y = true
    · rw [if_pos k]; exact Nat.le_refl _
    · rw [if_neg k]; omega
def ds_fc (s0 s1 c d t r0 r1 u : Bool) : Bool :=
  match ds_fo (ds_g s0 s1 c d t r0 r1 u) 6 0 ds_f0 with
  | none => false
  | some k => if (s1 && t) = true then decide (k 11 = 1) && decide (k 1 = 10)
    else if (s0 && c && t) = true then decide (k 11 = 1) && decide (k 1 = 0) && decide (k 0 = 10)
    else decide (k 11 = -1)
theorem ds_fcd : ∀ s0 s1 c d t r0 r1 u : Bool, ds_fc s0 s1 c d t r0 r1 u = true := by decide +kernel
theorem ds_fcx (s0 s1 c d t r0 r1 u : Bool) : ∃ k, ds_fo (ds_g s0 s1 c d t r0 r1 u) 6 0 ds_f0 = some k ∧
    ((s1 && t) = true → k 11 = 1 ∧ k 1 = 10) ∧
    (¬ (s1 && t) = true → (s0 && c && t) = true → k 11 = 1 ∧ k 1 = 0 ∧ k 0 = 10) ∧
    (¬ (s1 && t) = true → ¬ (s0 && c && t) = true → k 11 = -1) := by
  have h := ds_fcd s0 s1 c d t r0 r1 u
  unfold ds_fc at h
  cases hk : ds_fo (ds_g s0 s1 c d t r0 r1 u) 6 0 ds_f0 with
  | none =>
    rw [hk] at h
    have h2 : false = true := h
    cases h2
  | some k =>
    rw [hk] at h
    dsimp only at h
    refine ⟨k, rfl, fun z => ?_, fun z w => ?_, fun z w => ?_⟩
    · rw [if_pos z] at h
      simp only [Bool.and_eq_true, decide_eq_true_eq] at h
      exact h
    · rw [if_neg z, if_pos w] at h
      simp only [Bool.and_eq_true, decide_eq_true_eq] at h
      exact ⟨h.1.1, h.1.2, h.2⟩
    · rw [if_neg z, if_neg w] at h
      exact of_decide_eq_true h
/-! the search back from the sink: (end, reaches, queue) -/
def ds_ry (g : Nat → Nat → Bool) (y x : Nat) (s : Nat × (Nat → Int32) × (Nat → Nat)) : Nat × (Nat → Int32) × (Nat → Nat) :=
  if s.2.1 x = 0 then (if g x y = true then (s.1 + 1, upd s.2.1 x 1, ds_up s.2.2 s.1 x) else s) else s
def ds_rx (g : Nat → Nat → Bool) (y : Nat) (s : Nat × (Nat → Int32) × (Nat → Nat)) : Nat × (Nat → Int32) × (Nat → Nat) :=
  ds_ry g y 11 (ds_ry g y 10 (ds_ry g y 1 (ds_ry g y 0 s)))
def ds_ro (g : Nat → Nat → Bool) : Nat → Nat → Nat × (Nat → Int32) × (Nat → Nat) → Option (Nat → Int32)
  | 0, _, _ => none
  | n + 1, i, s => if s.1 ≤ i then some s.2.1 else if s.1 ≤ 8 ∧ ds_ndb (s.2.2 i) = true then ds_ro g n (i + 1) (ds_rx g (s.2.2 i) s) else none
def ds_r0 : Nat × (Nat → Int32) × (Nat → Nat) := (1, upd (fun _ => 0) 11 1, fun _ => 11)
theorem ds_ryl (g : Nat → Nat → Bool) (y x : Nat) (s : Nat × (Nat → Int32) × (Nat → Nat)) : (ds_ry g y x s).1 ≤ s.1 + 1 := by
  unfold ds_ry
  by_cases h : s.2.1 x = 0
  · rw [if_pos h]
    by_cases k : g x y = true
    · rw [if_pos k]; exact Nat.le_refl _
    · rw [if_neg k]; omega
  · rw [if_neg h]; omega
def ds_rc (s0 s1 c d t r0 r1 u : Bool) : Bool :=
  match ds_ro (ds_g s0 s1 c d t r0 r1 u) 6 0 ds_r0 with
  | none => false
  | some k => if t = true then (if s1 = true then true else if c = true then true else decide (k 0 = 0) && decide (k 1 = 1))
    else decide (k 0 = 0) && decide (k 1 = 0)
theorem ds_rcd : ∀ s0 s1 c d t r0 r1 u : Bool, ds_rc s0 s1 c d t r0 r1 u = true := by decide +kernel
theorem ds_rcx (s0 s1 c d t r0 r1 u : Bool) : ∃ k, ds_ro (ds_g s0 s1 c d t r0 r1 u) 6 0 ds_r0 = some k ∧
    (¬ t = true → k 0 = 0 ∧ k 1 = 0) ∧ (t = true → ¬ s1 = true → ¬ c = true → k 0 = 0 ∧ k 1 = 1) := by
  have h := ds_rcd s0 s1 c d t r0 r1 u
  unfold ds_rc at h
  cases hk : ds_ro (ds_g s0 s1 c d t r0 r1 u) 6 0 ds_r0 with
  | none =>
    rw [hk] at h
    have h2 : false = true := h
    cases h2
  | some k =>
    rw [hk] at h
    dsimp only at h
    refine ⟨k, rfl, fun z => ?_, fun z w v => ?_⟩
    · rw [if_neg z] at h
      simp only [Bool.and_eq_true, decide_eq_true_eq] at h
      exact h
    · rw [if_pos z, if_neg w, if_neg v] at h
      simp only [Bool.and_eq_true, decide_eq_true_eq] at h
      exact h
end
section
/-! the data of the two vertices: edge e, bonus b of vertex 0, mode m of vertex 1 -/
def ds_D (e b m : Nat) (a1 a2 a3 : Nat → Int32) : Prop :=
  e ≤ 20 ∧ b ≤ 20 ∧ m ≤ 2 ∧ a1 0 = nI 0 ∧ a1 1 = nI e ∧ a1 10 = nI e ∧ a1 11 = nI 0 ∧ a2 0 = nI b ∧ a2 1 = nI 0 ∧ a3 0 = nI 0 ∧ a3 1 = nI m
theorem ds_z (b : Nat) : (0 : Int32) + nI b = nI b := by
  rw [← nI_0, nI_add, Nat.zero_add]
theorem ds_c1 : ((0 : Int32) * 10 + 1).toNatClampNeg = 1 := by decide
theorem ds_c2 : (1 : Int32).toNatClampNeg = 1 := by decide
/-! weight -/
theorem ds_w3 {post : Int32 → Prop} {f1 f2 f3 f4 : Int32} {a1 a2 a3 a4 a5 a6 a7 : Nat → Int32} {e b m : Nat} (D : ds_D e b m a1 a2 a3) (h : post (nI (e + b))) :
    wpX_weight post (2, f1, f2, f3, f4, a1, a2, a3, a4, a5, a6, a7) 3 := by
  obtain ⟨_, _, _, h0, h1, h10, h11, k0, k1, _, _⟩ := D
  have e1 : (0 : Int32) + a2 (0 : Int32).toNatClampNeg = nI b := by rw [sb_cl0, k0, ds_z]
  have e2 : nI b + a1 ((0 : Int32) * 10 + 1).toNatClampNeg = nI (e + b) := by rw [ds_c1, h1, nI_add, Nat.add_comm]
  have e3 : nI (e + b) + a2 (1 : Int32).toNatClampNeg = nI (e + b) := by rw [ds_c2, k1, nI_add, Nat.add_zero]
  unfold wpX_weight
  dsimp only
  refine ⟨3, br_f (by decide) (br_f (by decide) ⟨pk_in 0 10 (by decide), nm_r e1 (nm_r (show (0 : Int32) + 1 = 1 by decide) ⟨2, ?_⟩)⟩)⟩
  refine br_f (by decide) (br_t (by decide) ⟨pk_in 1 100 (by decide) (by decide), nm_r e2 (nm_r (show (1 : Int32) + 1 = 2 by decide) ?_)⟩)
  refine br_t (by decide) (nm_r (show (0 : Int32) + 1 = 1 by decide) ?_)
  refine br_f (by decide) (br_f (by decide) ⟨pk_in 1 10 (by decide), nm_r e3 (nm_r (show (1 : Int32) + 1 = 2 by decide) ⟨1, ?_⟩)⟩)
  refine br_t (by decide) (nm_r (show (1 : Int32) + 1 = 2 by decide) ?_)
  exact br_t (by decide) h
theorem ds_w1 {post : Int32 → Prop} {f1 f2 f3 f4 : Int32} {a1 a2 a3 a4 a5 a6 a7 : Nat → Int32} {e b m : Nat} (D : ds_D e b m a1 a2 a3) (h : post (nI b)) :
    wpX_weight post (2, f1, f2, f3, f4, a1, a2, a3, a4, a5, a6, a7) 1 := by
  obtain ⟨_, _, _, h0, h1, h10, h11, k0, k1, _, _⟩ := D
  have e1 : (0 : Int32) + a2 (0 : Int32).toNatClampNeg = nI b := by rw [sb_cl0, k0, ds_z]
  unfold wpX_weight
  dsimp only
  refine ⟨3, br_f (by decide) (br_f (by decide) ⟨pk_in 0 10 (by decide), nm_r e1 (nm_r (show (0 : Int32) + 1 = 1 by decide) ⟨2, ?_⟩)⟩)⟩
  refine br_f (by decide) (br_f (by decide) (nm_r (show (1 : Int32) + 1 = 2 by decide) ?_))
  refine br_t (by decide) (nm_r (show (0 : Int32) + 1 = 1 by decide) ?_)
  refine br_f (by decide) (br_t (by decide) (nm_r (show (1 : Int32) + 1 = 2 by decide) ?_))
  exact br_t (by decide) h
theorem ds_w2 {post : Int32 → Prop} {f1 f2 f3 f4 : Int32} {a1 a2 a3 a4 a5 a6 a7 : Nat → Int32} {e b m : Nat} (D : ds_D e b m a1 a2 a3) (h : post (nI 0)) :
    wpX_weight post (2, f1, f2, f3, f4, a1, a2, a3, a4, a5, a6, a7) 2 := by
  obtain ⟨_, _, _, h0, h1, h10, h11, k0, k1, _, _⟩ := D
  have e1 : (0 : Int32) + a2 (1 : Int32).toNatClampNeg = nI 0 := by rw [ds_c2, k1, ds_z]
  unfold wpX_weight
  dsimp only
  refine ⟨3, br_f (by decide) (br_t (by decide) (nm_r (show (0 : Int32) + 1 = 1 by decide) ?_))⟩
  refine br_f (by decide) (br_f (by decide) ⟨pk_in 1 10 (by decide), nm_r e1 (nm_r (show (1 : Int32) + 1 = 2 by decide) ⟨1, ?_⟩)⟩)
  refine br_t (by decide) (nm_r (show (1 : Int32) + 1 = 2 by decide) ?_)
  exact br_t (by decide) h
/-! members -/
def ds_mb (x0 : Int32) : Nat → Int32 → Int32 → Option Int32
  | 0, _, _ => none
  | n + 1, x1, x2 => if 10 ≤ x2 then some x1 else ds_mb x0 n (x1 + ((x0 >>> (x2 &&& 31)) &&& 1)) (x2 + 1)
theorem ds_mbs {post : Int32 → Prop} {x0 r : Int32} (h : post r) : ∀ (n : Nat) (x1 x2 : Int32), ds_mb x0 n x1 x2 = some r → wX_members_4 post x0 n x1 x2 := by
  intro n
  induction n with
  | zero =>
    intro x1 x2 z
    have z' : (none : Option Int32) = some r := z
    cases z'
  | succ n ih =>
    intro x1 x2 z
    unfold ds_mb at z
    by_cases k : 10 ≤ x2
    · rw [if_pos k] at z
      have e : x1 = r := Option.some.inj z
      rw [e]
      exact br_t k h
    · rw [if_neg k] at z
      exact br_f k (nm_e (nm_e (ih _ _ z)))
theorem ds_m3 {post : Int32 → Prop} (h : post 2) : wpX_members post () 3 := ⟨11, ds_mbs h 11 0 0 (by decide +kernel)⟩
theorem ds_m1 {post : Int32 → Prop} (h : post 1) : wpX_members post () 1 := ⟨11, ds_mbs h 11 0 0 (by decide +kernel)⟩
/-! gcd -/
def ds_gc : Nat → Int32 → Int32 → Int32 → Option Int32
  | 0, _, _, _ => none
  | n + 1, x2, x3, x4 => if 40 ≤ x4 then some x2 else if x3 ≤ 0 then some x2 else ds_gc n x3 (x2 - x2 / x3 * x3) (x4 + 1)
theorem ds_gcs {post : Int32 → Prop} {r : Int32} (h : post r) : ∀ (n : Nat) (x2 x3 x4 : Int32), ds_gc n x2 x3 x4 = some r → wX_gcd_7 post n x2 x3 x4 := by
  intro n
  induction n with
  | zero =>
    intro x2 x3 x4 z
    have z' : (none : Option Int32) = some r := z
    cases z'
  | succ n ih =>
    intro x2 x3 x4 z
    unfold ds_gc at z
    by_cases k : 40 ≤ x4
    · rw [if_pos k] at z
      have e : x2 = r := Option.some.inj z
      rw [e]
      exact br_t k h
    · rw [if_neg k] at z
      by_cases k2 : x3 ≤ 0
      · rw [if_pos k2] at z
        have e : x2 = r := Option.some.inj z
        rw [e]
        exact br_f k (br_t k2 h)
      · rw [if_neg k2] at z
        have k3 : ¬ x3 = 0 := fun q => k2 (by rw [q]; decide)
        exact br_f k (br_f k2 ⟨k3, nm_e (nm_e (ih _ _ _ z))⟩)
theorem ds_gd2 : ∀ T, T < 41 → ds_gc 5 (nI T) 2 0 = some (if T % 2 = 0 then 2 else 1) := by decide +kernel
theorem ds_gd1 : ∀ T, T < 41 → ds_gc 5 (nI T) 1 0 = some 1 := by decide +kernel
/-! takeDensity, valueOf -/
def ds_gn (T : Nat) : Nat := if T % 2 = 0 then 1 else 2
def ds_pn (T : Nat) : Nat := if T % 2 = 0 then T / 2 else T
theorem ds_t3 {post : St2 → Prop} {f1 f2 f3 f4 : Int32} {a1 a2 a3 a4 a5 a6 a7 : Nat → Int32} {e b m : Nat} (D : ds_D e b m a1 a2 a3)
    (h : post (2, f1, nI (ds_pn (e + b)), nI (ds_gn (e + b)), 3, a1, a2, a3, a4, a5, a6, a7)) :
    wpX_takeDensity post (2, f1, f2, f3, f4, a1, a2, a3, a4, a5, a6, a7) 3 := by
  have he : e ≤ 20 := D.1
  have hb : b ≤ 20 := D.2.1
  unfold wpX_takeDensity
  dsimp only
  refine ds_w3 D (ds_m3 ⟨5, ds_gcs ?_ 5 _ _ _ (ds_gd2 (e + b) (by omega))⟩)
  unfold ds_pn ds_gn at h
  by_cases hT : (e + b) % 2 = 0
  · rw [if_pos hT, if_pos hT] at h
    rw [if_pos hT]
    exact br_f (by decide) ⟨by decide, nm_r (pk_div (a := e + b) (d := 2) (by omega) (by omega) (by omega)) ⟨by decide, nm_r (show (2 : Int32) / 2 = nI 1 by decide) h⟩⟩
  · rw [if_neg hT, if_neg hT] at h
    rw [if_neg hT]
    exact br_t (by decide) h
theorem ds_t1 {post : St2 → Prop} {f1 f2 f3 f4 : Int32} {a1 a2 a3 a4 a5 a6 a7 : Nat → Int32} {e b m : Nat} (D : ds_D e b m a1 a2 a3)
    (h : post (2, f1, nI b, nI 1, 1, a1, a2, a3, a4, a5, a6, a7)) :
    wpX_takeDensity post (2, f1, f2, f3, f4, a1, a2, a3, a4, a5, a6, a7) 1 := by
  have hb : b ≤ 20 := D.2.1
  unfold wpX_takeDensity
  dsimp only
  exact ds_w1 D (ds_m1 ⟨5, ds_gcs (br_t (by decide) h) 5 _ _ _ (ds_gd1 b (by omega))⟩)
theorem ds_v3 {post : Int32 → Prop} {f1 f2 f3 f4 G P : Int32} {a1 a2 a3 a4 a5 a6 a7 : Nat → Int32} {e b m : Nat} (D : ds_D e b m a1 a2 a3)
    (h : post (G * nI (e + b) - P * 2)) : wpX_valueOf post (2, f1, f2, f3, f4, a1, a2, a3, a4, a5, a6, a7) 3 G P := by
  unfold wpX_valueOf
  dsimp only
  exact ds_w3 D (ds_m3 h)
theorem ds_v1 {post : Int32 → Prop} {f1 f2 f3 f4 G P : Int32} {a1 a2 a3 a4 a5 a6 a7 : Nat → Int32} {e b m : Nat} (D : ds_D e b m a1 a2 a3)
    (h : post (G * nI b - P * 1)) : wpX_valueOf post (2, f1, f2, f3, f4, a1, a2, a3, a4, a5, a6, a7) 1 G P := by
  unfold wpX_valueOf
  dsimp only
  exact ds_w1 D (ds_m1 h)
/-! the sums, over all weights -/
theorem ds_ar1 : ∀ e, e < 21 → ∀ b, b < 21 →
    (2 * nI (ds_gn (e + b))) * nI b - 2 * nI (ds_pn (e + b)) + nI 0 + nI (ds_gn (e + b) * e) = nI (ds_gn (e + b) * b) ∧
    (2 * nI (ds_gn (e + b))) * nI 0 - 2 * nI (ds_pn (e + b)) + nI (ds_gn (e + b) * e) + nI 0 = - nI (ds_gn (e + b) * b) ∧
    nI (ds_gn (e + b)) * nI (e + b) - nI (ds_pn (e + b)) * 2 ≤ 0 ∧
    (e < b → ¬ nI (ds_gn (e + b)) * nI b - nI (ds_pn (e + b)) * 1 ≤ 0) := by decide +kernel
theorem ds_ar2 : ∀ e, e < 21 → ∀ b, b < 21 →
    (2 * nI 1) * nI b - 2 * nI b + nI 0 + nI e = nI e ∧
    (e ≤ 2 * b → (2 * nI 1) * nI 0 - 2 * nI b + nI e + nI 0 = - nI (2 * b - e)) ∧
    (2 * b < e → (2 * nI 1) * nI 0 - 2 * nI b + nI e + nI 0 = nI (e - 2 * b)) ∧
    nI 1 * nI b - nI b * 1 ≤ 0 := by decide +kernel
end
section
/-! buildNetwork -/
theorem ds_b51 {post : St2 → Prop} {J : Int32 → (Nat → Int32) → (Nat → Int32) → (Nat → Int32) → (Nat → Int32) → (Nat → Int32) → (Nat → Int32) → (Nat → Int32) → Prop} {G P X f1 f2 f3 f4 A v0 v1 : Int32} {a1 a2 a3 a4 a5 a6 a7 : Nat → Int32} {u : Nat} (hu : u < 2)
    (h0 : G * a1 (u * 10 + 0) = v0) (h1 : G * a1 (u * 10 + 1) = v1) (hA : X + v0 + v1 = A)
    (H : (A ≤ 0 → wX_buildNetwork_145 post J G P (nI u) 2 f1 f2 f3 f4 a1 a2 a3 (upd (upd (upd a4 (u * 12 + 0) v0) (u * 12 + 1) v1) (u * 12 + 11) (-A)) a5 a6 a7) ∧
      (¬ A ≤ 0 → wX_buildNetwork_145 post J G P (nI u) 2 f1 f2 f3 f4 a1 a2 a3 (upd (upd (upd a4 (u * 12 + 0) v0) (u * 12 + 1) v1) (120 + u) A) a5 a6 a7)) :
    wX_buildNetwork_51 post J G P (nI u) 2 f1 f2 f3 f4 3 X 0 a1 a2 a3 a4 a5 a6 a7 := by
  have q1 : nI u * 10 + 0 = nI (u * 10 + 0) := ds_ix10 u 0
  have q2 : nI u * 12 + 0 = nI (u * 12 + 0) := ds_ix u 0
  have q3 : nI u * 10 + 1 = nI (u * 10 + 1) := ds_ix10 u 1
  have q4 : nI u * 12 + 1 = nI (u * 12 + 1) := ds_ix u 1
  have q5 : nI u * 12 + 11 = nI (u * 12 + 11) := ds_ix u 11
  have q6 : 120 + nI u = nI (120 + u) := nI_add 120 u
  have k1 : (nI u * 10 + 0).toNatClampNeg = u * 10 + 0 := pk_cl _ q1
  have k2 : (nI u * 12 + 0).toNatClampNeg = u * 12 + 0 := pk_cl _ q2
  have k3 : (nI u * 10 + 1).toNatClampNeg = u * 10 + 1 := pk_cl _ q3
  have k4 : (nI u * 12 + 1).toNatClampNeg = u * 12 + 1 := pk_cl _ q4
  have k5 : (nI u * 12 + 11).toNatClampNeg = u * 12 + 11 := pk_cl _ q5
  have k6 : (120 + nI u).toNatClampNeg = 120 + u := pk_cl _ q6
  refine br_f (by decide) ⟨pk_in (u * 10 + 0) 100 (by omega) q1, nm_r (show X + G * a1 (nI u * 10 + 0).toNatClampNeg = X + v0 by rw [k1, h0]) ⟨pk_in (u * 10 + 0) 100 (by omega) q1, pk_in (u * 12 + 0) 144 (by omega) q2,
    nm_r (show upd a4 (nI u * 12 + 0).toNatClampNeg (G * a1 (nI u * 10 + 0).toNatClampNeg) = upd a4 (u * 12 + 0) v0 by rw [k1, k2, h0]) (nm_r (show (0 : Int32) + 1 = 1 by decide) ?_)⟩⟩
  refine br_f (by decide) ⟨pk_in (u * 10 + 1) 100 (by omega) q3, nm_r (show X + v0 + G * a1 (nI u * 10 + 1).toNatClampNeg = A by rw [k3, h1, hA]) ⟨pk_in (u * 10 + 1) 100 (by omega) q3, pk_in (u * 12 + 1) 144 (by omega) q4,
    nm_r (show upd (upd a4 (u * 12 + 0) v0) (nI u * 12 + 1).toNatClampNeg (G * a1 (nI u * 10 + 1).toNatClampNeg) = upd (upd a4 (u * 12 + 0) v0) (u * 12 + 1) v1 by rw [k3, k4, h1]) (nm_r (show (1 : Int32) + 1 = 2 by decide) ?_)⟩⟩
  refine br_t (by decide) (br_c (fun z => ⟨pk_in (u * 12 + 11) 144 (by omega) q5, nm_r (by rw [k5]) (H.1 z)⟩) (fun z => ⟨pk_in (120 + u) 144 (by omega) q6, nm_r (by rw [k6]) (H.2 z)⟩))
theorem ds_b145 {post : St2 → Prop} {J : Int32 → (Nat → Int32) → (Nat → Int32) → (Nat → Int32) → (Nat → Int32) → (Nat → Int32) → (Nat → Int32) → (Nat → Int32) → Prop} {G P f1 f2 f3 f4 : Int32} {a1 a2 a3 a4 a5 a6 a7 : Nat → Int32} {u m : Nat} (hu : u < 2) (hm : m ≤ 2) (h3 : a3 u = nI m)
    (H : J (nI (u + 1)) a1 a2 a3 (if m = 1 then upd a4 (120 + u) 1000000 else if m = 2 then upd a4 (u * 12 + 11) 1000000 else a4) a5 a6 a7) :
    wX_buildNetwork_145 post J G P (nI u) 2 f1 f2 f3 f4 a1 a2 a3 a4 a5 a6 a7 := by
  have q5 : nI u * 12 + 11 = nI (u * 12 + 11) := ds_ix u 11
  have q6 : 120 + nI u = nI (120 + u) := nI_add 120 u
  have k0 : (nI u).toNatClampNeg = u := nI_clamp (by omega)
  have k5 : (nI u * 12 + 11).toNatClampNeg = u * 12 + 11 := pk_cl _ q5
  have k6 : (120 + nI u).toNatClampNeg = 120 + u := pk_cl _ q6
  unfold wX_buildNetwork_145
  rw [k0, k6, h3]
  refine ⟨pk_in u 10 (by omega), pk_eq m 1 (fun z => ⟨pk_in (120 + u) 144 (by omega) q6, nm_e ?_⟩) (fun z => ?_)⟩
  · rw [if_pos z] at H
    unfold wX_buildNetwork_166
    rw [k0, k5, h3]
    exact ⟨pk_in u 10 (by omega), pk_eq m 2 (fun w => absurd w (by omega)) (fun _ => nm_r (nI_1 u) H)⟩
  · rw [if_neg z] at H
    unfold wX_buildNetwork_166
    rw [k0, k5, h3]
    refine ⟨pk_in u 10 (by omega), pk_eq m 2 (fun w => ⟨pk_in (u * 12 + 11) 144 (by omega) q5, nm_e (nm_r (nI_1 u) ?_)⟩) (fun w => nm_r (nI_1 u) ?_)⟩
    · rw [if_pos w] at H
      exact H
    · rw [if_neg w] at H
      exact H
/-- the first row out of an array of zeros -/
theorem ds_row0 {z : Nat → Int32} (hz : ∀ j, j < 144 → z j = 0) {s0 c : Nat} (hb : s0 + c < 2000000) :
    (s0 = 0 → ds_R (upd (upd (upd z 0 (nI 0)) 1 (nI c)) 11 (-nI s0)) s0 0 c 0 0 0 0 0) ∧ ds_R (upd (upd (upd z 0 (nI 0)) 1 (nI c)) 120 (nI s0)) s0 0 c 0 0 0 0 0 := by
  have z10 := hz 10 (by omega)
  have z11 := hz 11 (by omega)
  have z12 := hz 12 (by omega)
  have z13 := hz 13 (by omega)
  have z22 := hz 22 (by omega)
  have z23 := hz 23 (by omega)
  have z120 := hz 120 (by omega)
  have z121 := hz 121 (by omega)
  have z130 := hz 130 (by omega)
  have z131 := hz 131 (by omega)
  have z132 := hz 132 (by omega)
  have z133 := hz 133 (by omega)
  have z142 := hz 142 (by omega)
  have z143 := hz 143 (by omega)
  have n0 : nI 0 = 0 := nI_0
  have m0 : -(0 : Int32) = 0 := by decide
  constructor
  · intro e
    subst e
    refine ⟨by omega, ?_, ?_, ?_, ?_, ?_, ?_, ?_, ?_, ?_, ?_, ?_, ?_, ?_, ?_, ?_, ?_⟩ <;> simp [upd, z10, z12, z13, z22, z23, z120, z121, z130, z131, z132, z133, z142, z143, n0, m0]
  · refine ⟨by omega, ?_, ?_, ?_, ?_, ?_, ?_, ?_, ?_, ?_, ?_, ?_, ?_, ?_, ?_, ?_, ?_⟩ <;> simp [upd, z10, z11, z12, z13, z22, z23, z121, z130, z131, z132, z133, z142, z143, n0]
/-- the second row behind the first -/
theorem ds_row1 {z : Nat → Int32} {s0 c q t : Nat} (h : ds_R z s0 0 c 0 0 0 0 0) (hb : s0 + q + c + c + t < 900000) (m : Nat) {y : Nat → Int32}
    (hy : (y = upd (upd (upd z 12 (nI c)) 13 (nI 0)) 23 (nI t) ∧ q = 0) ∨ (y = upd (upd (upd z 12 (nI c)) 13 (nI 0)) 121 (nI q) ∧ t = 0)) :
    ds_R (if m = 1 then upd y 121 1000000 else if m = 2 then upd y 23 1000000 else y) s0 (if m = 1 then 1000000 else q) c c (if m = 2 then 1000000 else t) 0 0 0 := by
  obtain ⟨_, h0, h1, h10, h11, h12, h13, h22, h23, h120, h121, h130, h131, h132, h133, h142, h143⟩ := h
  have n0 : nI 0 = 0 := nI_0
  have nE : nI 1000000 = 1000000 := rfl
  have hY : y 0 = nI 0 ∧ y 1 = nI c ∧ y 10 = nI 0 ∧ y 11 = nI 0 ∧ y 12 = nI c ∧ y 13 = nI 0 ∧ y 22 = nI 0 ∧ y 23 = nI t ∧
      y 120 = nI s0 ∧ y 121 = nI q ∧ y 130 = nI 0 ∧ y 131 = nI 0 ∧ y 132 = nI 0 ∧ y 133 = nI 0 ∧ y 142 = nI 0 ∧ y 143 = nI 0 := by
    rcases hy with ⟨e, e2⟩ | ⟨e, e2⟩
    · subst e e2
      refine ⟨?_, ?_, ?_, ?_, ?_, ?_, ?_, ?_, ?_, ?_, ?_, ?_, ?_, ?_, ?_, ?_⟩ <;> simp [upd, h0, h1, h10, h11, h22, h120, h121, h130, h131, h132, h133, h142, h143]
    · subst e e2
      refine ⟨?_, ?_, ?_, ?_, ?_, ?_, ?_, ?_, ?_, ?_, ?_, ?_, ?_, ?_, ?_, ?_⟩ <;> simp [upd, h0, h1, h10, h11, h22, h23, h120, h130, h131, h132, h133, h142, h143]
  obtain ⟨y0, y1, y10, y11, y12, y13, y22, y23, y120, y121, y130, y131, y132, y133, y142, y143⟩ := hY
  by_cases m1 : m = 1
  · have m2 : ¬ m = 2 := by omega
    rw [if_pos m1, if_pos m1, if_neg m2]
    refine ⟨by omega, ?_, ?_, ?_, ?_, ?_, ?_, ?_, ?_, ?_, ?_, ?_, ?_, ?_, ?_, ?_, ?_⟩ <;> simp [upd, y0, y1, y10, y11, y12, y13, y22, y23, y120, y130, y131, y132, y133, y142, y143, nE]
  · rw [if_neg m1, if_neg m1]
    by_cases m2 : m = 2
    · rw [if_pos m2, if_pos m2]
      refine ⟨by omega, ?_, ?_, ?_, ?_, ?_, ?_, ?_, ?_, ?_, ?_, ?_, ?_, ?_, ?_, ?_, ?_⟩ <;> simp [upd, y0, y1, y10, y11, y12, y13, y22, y120, y121, y130, y131, y132, y133, y142, y143, nE]
    · rw [if_neg m2, if_neg m2]
      exact ⟨by omega, y0, y1, y10, y11, y12, y13, y22, y23, y120, y121, y130, y131, y132, y133, y142, y143⟩
theorem ds_b24 {post : St2 → Prop} {G P f1 f2 f3 f4 : Int32} {a1 a2 a3 a4 a5 a6 a7 : Nat → Int32} {e b m s0 c q t : Nat} (D : ds_D e b m a1 a2 a3) (hz : ∀ j, j < 144 → a4 j = 0)
    (hb : s0 + q + c + c + t < 900000) (hG0 : G * nI 0 = nI 0) (hGe : G * nI e = nI c) (hA0 : (2 * G) * nI b - 2 * P + nI 0 + nI c = nI s0)
    (hA1 : ((2 * G) * nI 0 - 2 * P + nI c + nI 0 = -nI t ∧ q = 0) ∨ ((2 * G) * nI 0 - 2 * P + nI c + nI 0 = nI q ∧ 0 < q ∧ t = 0))
    (H : ∀ b4, ds_R b4 s0 (if m = 1 then 1000000 else q) c c (if m = 2 then 1000000 else t) 0 0 0 → post (2, f1, f2, f3, f4, a1, a2, a3, b4, a5, a6, a7)) :
    wX_buildNetwork_24 post G P 2 f1 f2 f3 f4 3 0 a1 a2 a3 a4 a5 a6 a7 := by
  obtain ⟨_, _, hm, h0, h1, h10, h11, k0, k1, j0, j1⟩ := D
  have r0 := ds_row0 hz (s0 := s0) (c := c) (by omega)
  have second : ∀ b4, ds_R b4 s0 0 c 0 0 0 0 0 → wX_buildNetwork_24 post G P 2 f1 f2 f3 f4 2 (nI 1) a1 a2 a3 b4 a5 a6 a7 := by
    intro b4 R
    refine br_f (by decide) ⟨pk_in 1 10 (by decide), nm_r (show (2 * G) * a2 (nI 1).toNatClampNeg - 2 * P = (2 * G) * nI 0 - 2 * P by rw [nI_clamp (by decide), k1]) ⟨3, ?_⟩⟩
    have fin : ∀ y, ((y = upd (upd (upd b4 12 (nI c)) 13 (nI 0)) 23 (nI t) ∧ q = 0) ∨ (y = upd (upd (upd b4 12 (nI c)) 13 (nI 0)) 121 (nI q) ∧ t = 0)) →
        wX_buildNetwork_145 post (wX_buildNetwork_24 post G P 2 f1 f2 f3 f4 1) G P (nI 1) 2 f1 f2 f3 f4 a1 a2 a3 y a5 a6 a7 := by
      intro y hy
      refine ds_b145 (m := m) (by decide) hm j1 ?_
      exact br_t (by decide) (H _ (ds_row1 R hb m hy))
    refine ds_b51 (u := 1) (v0 := nI c) (v1 := nI 0) (A := (2 * G) * nI 0 - 2 * P + nI c + nI 0) (by decide) ?_ ?_ rfl ⟨fun z => ?_, fun z => ?_⟩
    · show G * a1 10 = nI c
      rw [h10, hGe]
    · show G * a1 11 = nI 0
      rw [h11, hG0]
    · rcases hA1 with ⟨g1, g2⟩ | ⟨g1, g2, g3⟩
      · rw [g1, Int32.neg_neg]
        exact fin _ (Or.inl ⟨rfl, g2⟩)
      · rw [g1] at z
        exact absurd z (nI_nle g2 (by omega))
    · rcases hA1 with ⟨g1, g2⟩ | ⟨g1, g2, g3⟩
      · rw [g1] at z
        have w : -nI t ≤ -nI 0 := (sb_nle (a := t) (b := 0) (by omega) (by omega)).mpr (by omega)
        rw [nI_0, show -(0 : Int32) = 0 by decide] at w
        exact absurd w z
      · rw [g1]
        exact fin _ (Or.inr ⟨rfl, g3⟩)
  refine br_f (by decide) ⟨pk_in 0 10 (by decide), nm_r (show (2 * G) * a2 (0 : Int32).toNatClampNeg - 2 * P = (2 * G) * nI b - 2 * P by rw [sb_cl0, k0]) ⟨3, ?_⟩⟩
  refine ds_b51 (u := 0) (v0 := nI 0) (v1 := nI c) (A := nI s0) (by decide) ?_ ?_ hA0 ⟨fun z => ?_, fun z => ?_⟩
  · show G * a1 0 = nI 0
    rw [h0, hG0]
  · show G * a1 1 = nI c
    rw [h1, hGe]
  · have e0 : s0 = 0 := by
      rcases Nat.eq_zero_or_pos s0 with w | w
      · exact w
      · exact absurd z (nI_nle w (by omega))
    exact ds_b145 (m := 0) (by decide) (by decide) j0 (second _ (r0.1 e0))
  · exact ds_b145 (m := 0) (by decide) (by decide) j0 (second _ r0.2)
theorem ds_bn {post : St2 → Prop} {G P f1 f2 f3 f4 : Int32} {a1 a2 a3 a4 a5 a6 a7 : Nat → Int32} {e b m s0 c q t : Nat} (D : ds_D e b m a1 a2 a3)
    (hb : s0 + q + c + c + t < 900000) (hG0 : G * nI 0 = nI 0) (hGe : G * nI e = nI c) (hA0 : (2 * G) * nI b - 2 * P + nI 0 + nI c = nI s0)
    (hA1 : ((2 * G) * nI 0 - 2 * P + nI c + nI 0 = -nI t ∧ q = 0) ∨ ((2 * G) * nI 0 - 2 * P + nI c + nI 0 = nI q ∧ 0 < q ∧ t = 0))
    (H : ∀ b4, ds_R b4 s0 (if m = 1 then 1000000 else q) c c (if m = 2 then 1000000 else t) 0 0 0 → post (2, f1, f2, f3, f4, a1, a2, a3, b4, a5, a6, a7)) :
    wpX_buildNetwork post (2, f1, f2, f3, f4, a1, a2, a3, a4, a5, a6, a7) G P := by
  unfold wpX_buildNetwork
  dsimp only
  exact pk_loop (fun n i s => wX_buildNetwork_2 post G P 2 f1 f2 f3 f4 n (nI i) a1 a2 a3 s a5 a6 a7) (fun i s => ∀ j, j < i → s j = 0) 144 0 a4 (by omega) (fun j hj => absurd hj (by omega))
    (fun n s h => pk_le 144 144 (fun _ => ⟨3, ds_b24 D h hb hG0 hGe hA0 hA1 H⟩) (fun z => absurd z (by omega)))
    (fun n i s hi h hw => pk_le 144 i (fun z => absurd z (by omega)) (fun _ => ⟨pk_in i 144 hi, nm_e (nm_r (nI_1 i) (hw _ (fun j hj => by
      rw [nI_clamp (show i < 2 ^ 31 by omega)]
      by_cases ej : j = i
      · rw [ej, pk_us]
      · rw [pk_un ej]
        exact h j (by omega))))⟩))
end
section
/-! findWay -/
theorem ds_n1 {post : Int32 → Prop} {f1 f2 f3 f4 : Int32} {a1 a2 a3 a4 a5 a6 a7 : Nat → Int32} {y : Nat} (hy : ds_nd y) (h : post 1) :
    wpX_isNode post (2, f1, f2, f3, f4, a1, a2, a3, a4, a5, a6, a7) (nI y) := by
  unfold ds_nd at hy
  unfold wpX_isNode
  dsimp only
  exact pk_lt y 2 (fun _ => h) (fun z => pk_lt y 10 (fun z2 => absurd z2 (by omega)) (fun _ => h))
theorem ds_n0 {post : Int32 → Prop} {f1 f2 f3 f4 : Int32} {a1 a2 a3 a4 a5 a6 a7 : Nat → Int32} {y : Nat} (h2 : 2 ≤ y) (h10 : y < 10) (h : post 0) :
    wpX_isNode post (2, f1, f2, f3, f4, a1, a2, a3, a4, a5, a6, a7) (nI y) := by
  unfold wpX_isNode
  dsimp only
  exact pk_lt y 2 (fun z => absurd z (by omega)) (fun z => pk_lt y 10 (fun _ => h) (fun z2 => absurd z2 (by omega)))
/-- the arrays hold the picture of a search -/
def ds_F (s : Nat × (Nat → Int32) × (Nat → Nat)) (b q : Nat → Int32) : Prop :=
  (∀ j, j < 12 → b j = s.2.1 j) ∧ (∀ j, j < s.1 → q j = nI (s.2.2 j))
theorem ds_Fadd {s : Nat × (Nat → Int32) × (Nat → Nat)} {b q : Nat → Int32} (R : ds_F s b q) (y w : Nat) (v : Int32) :
    ds_F (s.1 + 1, upd s.2.1 y v, ds_up s.2.2 s.1 w) (upd b y v) (upd q s.1 (nI w)) := by
  refine ⟨fun j hj => ?_, fun j hj => ?_⟩
  · show upd b y v j = upd s.2.1 y v j
    by_cases e : j = y
    · rw [e, pk_us, pk_us]
    · rw [pk_un e, pk_un e]
      exact R.1 j hj
  · have hj' : j < s.1 + 1 := hj
    show upd q s.1 (nI w) j = nI (ds_up s.2.2 s.1 w j)
    unfold ds_up
    by_cases e : j = s.1
    · rw [e, pk_us, if_pos rfl]
    · rw [pk_un e, if_neg e]
      exact R.2 j (by omega)
theorem ds_63y {post : Int32 → St2 → Prop} {J : Int32 → Int32 → (Nat → Int32) → (Nat → Int32) → (Nat → Int32) → (Nat → Int32) → (Nat → Int32) → (Nat → Int32) → (Nat → Int32) → Prop} {xi f1 f2 f3 f4 : Int32} {a1 a2 a3 a4 a5 a6 a7 : Nat → Int32} {g : Nat → Nat → Bool} {x y n : Nat} {s : Nat × (Nat → Int32) × (Nat → Nat)}
    (hx : x < 12) (hy : ds_nd y) (he : s.1 < 12) (R : ds_F s a5 a6) (hg : g x y = true ↔ ¬ a4 (x * 12 + y) ≤ 0)
    (H : ∀ b5 b6, ds_F (ds_fy g x y s) b5 b6 → wX_findWay_63 post J xi (nI x) 2 f1 f2 f3 f4 n (nI (ds_fy g x y s).1) (nI (y + 1)) a1 a2 a3 a4 b5 b6 a7) :
    wX_findWay_63 post J xi (nI x) 2 f1 f2 f3 f4 (n + 1) (nI s.1) (nI y) a1 a2 a3 a4 a5 a6 a7 := by
  have hy12 : y < 12 := ds_nd12 hy
  refine pk_le 12 y (fun z => absurd z (by omega)) (fun _ => ds_n1 hy ?_)
  refine br_f (by decide) ⟨pk_in y 12 hy12, ?_⟩
  rw [ds_ix, nI_clamp (show y < 2 ^ 31 by omega), nI_clamp (show x * 12 + y < 2 ^ 31 by omega), nI_clamp (show s.1 < 2 ^ 31 by omega)]
  refine br_c (fun h0 => nm_r (nI_1 y) ?_) (fun h0 => ⟨pk_in (x * 12 + y) 144 (by omega), br_c (fun h1 => nm_r (nI_1 y) ?_) (fun h1 => ⟨pk_in y 12 hy12, nm_e ⟨pk_in s.1 12 he, nm_e (nm_r (nI_1 s.1) (nm_r (nI_1 y) ?_))⟩⟩)⟩)
  · have e : ds_fy g x y s = s := by
      unfold ds_fy
      rw [if_pos (by rw [← R.1 y hy12]; exact h0)]
    rw [e] at H
    exact H a5 a6 R
  · have e : ds_fy g x y s = s := by
      unfold ds_fy
      rw [if_neg (by rw [← R.1 y hy12]; exact h0), if_neg (fun z => (hg.mp z) h1)]
    rw [e] at H
    exact H a5 a6 R
  · have e : ds_fy g x y s = (s.1 + 1, upd s.2.1 y (nI x), ds_up s.2.2 s.1 y) := by
      unfold ds_fy
      rw [if_neg (by rw [← R.1 y hy12]; exact h0), if_pos (hg.mpr h1)]
    rw [e] at H
    exact H _ _ (ds_Fadd R y y (nI x))
theorem ds_63z {post : Int32 → St2 → Prop} {J : Int32 → Int32 → (Nat → Int32) → (Nat → Int32) → (Nat → Int32) → (Nat → Int32) → (Nat → Int32) → (Nat → Int32) → (Nat → Int32) → Prop} {xi xe x f1 f2 f3 f4 : Int32} {a1 a2 a3 a4 a5 a6 a7 : Nat → Int32} {n : Nat} (y : Nat) (h2 : 2 ≤ y) (h10 : y < 10)
    (H : wX_findWay_63 post J xi x 2 f1 f2 f3 f4 n xe (nI (y + 1)) a1 a2 a3 a4 a5 a6 a7) :
    wX_findWay_63 post J xi x 2 f1 f2 f3 f4 (n + 1) xe (nI y) a1 a2 a3 a4 a5 a6 a7 :=
  pk_le 12 y (fun z => absurd z (by omega)) (fun _ => ds_n0 h2 h10 (br_t rfl (nm_r (nI_1 y) H)))
theorem ds_63s {post : Int32 → St2 → Prop} {J : Int32 → Int32 → (Nat → Int32) → (Nat → Int32) → (Nat → Int32) → (Nat → Int32) → (Nat → Int32) → (Nat → Int32) → (Nat → Int32) → Prop} {xi xe x f1 f2 f3 f4 : Int32} {a1 a2 a3 a4 a5 a6 a7 : Nat → Int32}
    (H : wX_findWay_63 post J xi x 2 f1 f2 f3 f4 3 xe (nI 10) a1 a2 a3 a4 a5 a6 a7) :
    wX_findWay_63 post J xi x 2 f1 f2 f3 f4 11 xe (nI 2) a1 a2 a3 a4 a5 a6 a7 :=
  ds_63z 2 (by omega) (by omega) (ds_63z 3 (by omega) (by omega) (ds_63z 4 (by omega) (by omega) (ds_63z 5 (by omega) (by omega) (ds_63z 6 (by omega) (by omega) (ds_63z 7 (by omega) (by omega) (ds_63z 8 (by omega) (by omega) (ds_63z 9 (by omega) (by omega) H)))))))
theorem ds_63 {post : Int32 → St2 → Prop} {J : Int32 → Int32 → (Nat → Int32) → (Nat → Int32) → (Nat → Int32) → (Nat → Int32) → (Nat → Int32) → (Nat → Int32) → (Nat → Int32) → Prop} {xi f1 f2 f3 f4 : Int32} {a1 a2 a3 a4 a5 a6 a7 : Nat → Int32} {g : Nat → Nat → Bool} {x : Nat} {s : Nat × (Nat → Int32) × (Nat → Nat)}
    (hx : ds_nd x) (he : s.1 ≤ 8) (R : ds_F s a5 a6) (hg : ∀ y, ds_nd y → (g x y = true ↔ ¬ a4 (x * 12 + y) ≤ 0))
    (H : ∀ b5 b6, ds_F (ds_fx g x s) b5 b6 → J (nI (ds_fx g x s).1) (xi + 1) a1 a2 a3 a4 b5 b6 a7) :
    wX_findWay_63 post J xi (nI x) 2 f1 f2 f3 f4 13 (nI s.1) (nI 0) a1 a2 a3 a4 a5 a6 a7 := by
  have hx12 : x < 12 := ds_nd12 hx
  have b1 := ds_fyl g x 0 s
  have b2 := ds_fyl g x 1 (ds_fy g x 0 s)
  have b3 := ds_fyl g x 10 (ds_fy g x 1 (ds_fy g x 0 s))
  have t1 : (ds_fy g x 0 s).1 < 12 := by omega
  have t2 : (ds_fy g x 1 (ds_fy g x 0 s)).1 < 12 := by omega
  have t3 : (ds_fy g x 10 (ds_fy g x 1 (ds_fy g x 0 s))).1 < 12 := by omega
  refine ds_63y (n := 12) hx12 ds_nd0 (by omega) R (hg 0 ds_nd0) (fun c5 c6 R1 => ?_)
  refine ds_63y (n := 11) hx12 ds_nd1 t1 R1 (hg 1 ds_nd1) (fun d5 d6 R2 => ?_)
  refine ds_63s ?_
  refine ds_63y (n := 2) hx12 ds_nd10 t2 R2 (hg 10 ds_nd10) (fun e5 e6 R3 => ?_)
  refine ds_63y (n := 1) hx12 ds_nd11 t3 R3 (hg 11 ds_nd11) (fun k5 k6 R4 => ?_)
  exact pk_le 12 12 (fun _ => nm_e (H k5 k6 R4)) (fun z => absurd z (by omega))
theorem ds_fxl (g : Nat → Nat → Bool) (x : Nat) (s : Nat × (Nat → Int32) × (Nat → Nat)) : (ds_fx g x s).1 ≤ s.1 + 4 := by
  have b1 := ds_fyl g x 0 s
  have b2 := ds_fyl g x 1 (ds_fy g x 0 s)
  have b3 := ds_fyl g x 10 (ds_fy g x 1 (ds_fy g x 0 s))
  have b4 := ds_fyl g x 11 (ds_fy g x 10 (ds_fy g x 1 (ds_fy g x 0 s)))
  unfold ds_fx
  omega
theorem ds_42 {post : Int32 → St2 → Prop} {f1 f2 f3 f4 : Int32} {a1 a2 a3 a4 a7 : Nat → Int32} {g : Nat → Nat → Bool} {c : Nat → Int32}
    (hg : ∀ x y, ds_nd x → ds_nd y → (g x y = true ↔ ¬ a4 (x * 12 + y) ≤ 0))
    (H : ∀ b5 b6, (∀ j, j < 12 → b5 j = c j) → wX_findWay_135 post 2 f1 f2 f3 f4 a1 a2 a3 a4 b5 b6 a7) :
    ∀ (n i : Nat) (s : Nat × (Nat → Int32) × (Nat → Nat)) (a5 a6 : Nat → Int32), ds_fo g n i s = some c → ds_F s a5 a6 → s.1 ≤ 12 → i ≤ 12 →
      wX_findWay_42 post 2 f1 f2 f3 f4 n (nI s.1) (nI i) a1 a2 a3 a4 a5 a6 a7 := by
  intro n
  induction n with
  | zero =>
    intro i s a5 a6 h
    have h' : (none : Option (Nat → Int32)) = some c := h
    cases h'
  | succ n ih =>
    intro i s a5 a6 h R hs hi
    unfold ds_fo at h
    by_cases h1 : s.1 ≤ i
    · rw [if_pos h1] at h
      have hc : s.2.1 = c := Option.some.inj h
      exact pk_le s.1 i (fun _ => H a5 a6 (fun j hj => by rw [R.1 j hj, hc])) (fun z => absurd z (by omega))
    · rw [if_neg h1] at h
      by_cases h2 : s.1 ≤ 8 ∧ ds_ndb (s.2.2 i) = true
      · rw [if_pos h2] at h
        have hl := ds_fxl g (s.2.2 i) s
        have h3 := h2.1
        have hn := ds_ndI h2.2
        refine pk_le s.1 i (fun z => absurd z h1) (fun z => pk_le 12 i (fun z2 => absurd z2 (by omega)) (fun _ => ⟨pk_in i 12 (by omega), nm_r (show a6 (nI i).toNatClampNeg = nI (s.2.2 i) by rw [nI_clamp (by omega)]; exact R.2 i z) ⟨13, ?_⟩⟩))
        refine ds_63 hn h3 R (fun y hy => hg _ y hn hy) (fun b5 b6 R' => ?_)
        rw [nI_1]
        exact ih (i + 1) _ b5 b6 h R' (by omega) (by omega)
      · rw [if_neg h2] at h
        cases h
theorem ds_fw {post : Int32 → St2 → Prop} {f1 f2 f3 f4 : Int32} {a1 a2 a3 a4 a5 a6 a7 : Nat → Int32} {g : Nat → Nat → Bool} {c : Nat → Int32}
    (hex : ds_fo g 6 0 ds_f0 = some c) (hg : ∀ x y, ds_nd x → ds_nd y → (g x y = true ↔ ¬ a4 (x * 12 + y) ≤ 0))
    (H : ∀ b5 b6, (∀ j, j < 12 → b5 j = c j) → wX_findWay_135 post 2 f1 f2 f3 f4 a1 a2 a3 a4 b5 b6 a7) :
    wpX_findWay post (2, f1, f2, f3, f4, a1, a2, a3, a4, a5, a6, a7) := by
  unfold wpX_findWay
  dsimp only
  refine pk_loop (fun n i s => wX_findWay_2 post 2 f1 f2 f3 f4 n (nI i) a1 a2 a3 a4 s a6 a7) (fun i s => ∀ j, j < i → s j = -1) 12 0 a5 (by omega) (fun j hj => absurd hj (by omega)) (fun n s h => ?_) (fun n i s hi h hw => ?_)
  · refine pk_le 12 12 (fun _ => nm_e (nm_e ⟨6, ds_42 hg H 6 0 ds_f0 (upd s 10 10) (upd a6 0 10) hex ⟨fun j hj => ?_, fun j hj => ?_⟩ (by decide) (by decide)⟩)) (fun z => absurd z (by omega))
    · show upd s 10 10 j = upd (fun _ => -1) 10 10 j
      by_cases e : j = 10
      · rw [e, pk_us, pk_us]
      · rw [pk_un e, pk_un e]
        exact h j hj
    · have hj1 : j < 1 := hj
      have e : j = 0 := by omega
      rw [e]
      exact pk_us
  · refine pk_le 12 i (fun z => absurd z (by omega)) (fun _ => ⟨pk_in i 12 hi, nm_e (nm_r (nI_1 i) (hw _ (fun j hj => ?_)))⟩)
    rw [nI_clamp (show i < 2 ^ 31 by omega)]
    by_cases ej : j = i
    · rw [ej, pk_us]
    · rw [pk_un ej]
      exact h j (by omega)
theorem ds_fA {post : Int32 → St2 → Prop} {f1 f2 f3 f4 : Int32} {a1 a2 a3 a4 a5 a6 a7 : Nat → Int32} {s0 s1 c d t r0 r1 u : Nat} (R : ds_R a4 s0 s1 c d t r0 r1 u)
    (n1 : ¬ (0 < s1 ∧ 0 < t)) (n2 : ¬ (0 < s0 ∧ 0 < c ∧ 0 < t)) (H : ∀ b5 b6, post 0 (2, f1, f2, f3, f4, a1, a2, a3, a4, b5, b6, a7)) :
    wpX_findWay post (2, f1, f2, f3, f4, a1, a2, a3, a4, a5, a6, a7) := by
  obtain ⟨k, hk, _, _, k3⟩ := ds_fcx (decide (0 < s0)) (decide (0 < s1)) (decide (0 < c)) (decide (0 < d)) (decide (0 < t)) (decide (0 < r0)) (decide (0 < r1)) (decide (0 < u))
  simp only [Bool.and_eq_true, decide_eq_true_eq] at k3
  have e := k3 n1 (fun z => n2 ⟨z.1.1, z.1.2, z.2⟩)
  refine ds_fw hk (ds_Rg R) (fun b5 b6 hb => ?_)
  unfold wX_findWay_135
  rw [hb 11 (by decide), e]
  exact br_t (by decide) (H b5 b6)
theorem ds_fB {post : Int32 → St2 → Prop} {f1 f2 f3 f4 : Int32} {a1 a2 a3 a4 a5 a6 a7 : Nat → Int32} {s0 s1 c d t r0 r1 u : Nat} (R : ds_R a4 s0 s1 c d t r0 r1 u)
    (n1 : s1 = 0) (n2 : 0 < s0 ∧ 0 < c ∧ 0 < t) (H : ∀ b5 b6, b5 11 = 1 → b5 1 = 0 → b5 0 = 10 → post 1 (2, f1, f2, f3, f4, a1, a2, a3, a4, b5, b6, a7)) :
    wpX_findWay post (2, f1, f2, f3, f4, a1, a2, a3, a4, a5, a6, a7) := by
  obtain ⟨k, hk, _, k2, _⟩ := ds_fcx (decide (0 < s0)) (decide (0 < s1)) (decide (0 < c)) (decide (0 < d)) (decide (0 < t)) (decide (0 < r0)) (decide (0 < r1)) (decide (0 < u))
  simp only [Bool.and_eq_true, decide_eq_true_eq] at k2
  obtain ⟨e1, e2, e3⟩ := k2 (fun z => absurd z.1 (by omega)) ⟨⟨n2.1, n2.2.1⟩, n2.2.2⟩
  refine ds_fw hk (ds_Rg R) (fun b5 b6 hb => ?_)
  have g1 : b5 11 = 1 := by rw [hb 11 (by decide), e1]
  have g2 : b5 1 = 0 := by rw [hb 1 (by decide), e2]
  have g3 : b5 0 = 10 := by rw [hb 0 (by decide), e3]
  unfold wX_findWay_135
  rw [g1]
  exact br_f (by decide) (H b5 b6 g1 g2 g3)
theorem ds_fC {post : Int32 → St2 → Prop} {f1 f2 f3 f4 : Int32} {a1 a2 a3 a4 a5 a6 a7 : Nat → Int32} {s0 s1 c d t r0 r1 u : Nat} (R : ds_R a4 s0 s1 c d t r0 r1 u)
    (n1 : 0 < s1 ∧ 0 < t) (H : ∀ b5 b6, b5 11 = 1 → b5 1 = 10 → post 1 (2, f1, f2, f3, f4, a1, a2, a3, a4, b5, b6, a7)) :
    wpX_findWay post (2, f1, f2, f3, f4, a1, a2, a3, a4, a5, a6, a7) := by
  obtain ⟨k, hk, k1, _, _⟩ := ds_fcx (decide (0 < s0)) (decide (0 < s1)) (decide (0 < c)) (decide (0 < d)) (decide (0 < t)) (decide (0 < r0)) (decide (0 < r1)) (decide (0 < u))
  simp only [Bool.and_eq_true, decide_eq_true_eq] at k1
  obtain ⟨e1, e2⟩ := k1 n1
  refine ds_fw hk (ds_Rg R) (fun b5 b6 hb => ?_)
  have g1 : b5 11 = 1 := by rw [hb 11 (by decide), e1]
  have g2 : b5 1 = 10 := by rw [hb 1 (by decide), e2]
  unfold wX_findWay_135
  rw [g1]
  exact br_f (by decide) (H b5 b6 g1 g2)
end
section
/-! sendAlong -/
theorem ds_i23 : ((1 : Int32) * 12 + 11).toNatClampNeg = 23 := by decide
theorem ds_i133 : ((11 : Int32) * 12 + 1).toNatClampNeg = 133 := by decide
theorem ds_i121 : ((10 : Int32) * 12 + 1).toNatClampNeg = 121 := by decide
theorem ds_i22 : ((1 : Int32) * 12 + 10).toNatClampNeg = 22 := by decide
theorem ds_i1 : ((0 : Int32) * 12 + 1).toNatClampNeg = 1 := by decide
theorem ds_i12 : ((1 : Int32) * 12 + 0).toNatClampNeg = 12 := by decide
theorem ds_i120 : ((10 : Int32) * 12 + 0).toNatClampNeg = 120 := by decide
theorem ds_i10 : ((0 : Int32) * 12 + 10).toNatClampNeg = 10 := by decide
theorem ds_n11 : (11 : Int32).toNatClampNeg = 11 := by decide
/-- one edge of the way: the cells i and j -/
theorem ds_e1 {a : Nat → Int32} {i k v : Nat} {x : Int32} (hx : x.toNatClampNeg = i) (h : a i = nI v) (hk : k ≤ v) : upd a x.toNatClampNeg (a x.toNatClampNeg - nI k) = upd a i (nI (v - k)) := by
  rw [hx, h, pk_sub hk]
theorem ds_e2 {a : Nat → Int32} {i k v : Nat} {x : Int32} (hx : x.toNatClampNeg = i) (h : a i = nI v) : upd a x.toNatClampNeg (a x.toNatClampNeg + nI k) = upd a i (nI (v + k)) := by
  rw [hx, h, nI_add]
theorem ds_71C {post : St2 → Prop} {f1 f2 f3 f4 : Int32} {a1 a2 a3 a4 a5 a6 a7 : Nat → Int32} {s0 s1 c d t r0 r1 u k : Nat} (R : ds_R a4 s0 s1 c d t r0 r1 u)
    (p1 : a5 11 = 1) (p2 : a5 1 = 10) (hk : k ≤ s1) (hk2 : k ≤ t)
    (H : ∀ b4, ds_R b4 s0 (s1 - k) c d (t - k) r0 (r1 + k) (u + k) → post (2, f1, f2, f3, f4, a1, a2, a3, b4, a5, a6, a7)) :
    wX_sendAlong_71 post (nI k) 2 f1 f2 f3 f4 3 11 0 a1 a2 a3 a4 a5 a6 a7 := by
  obtain ⟨hb, h0, h1, h10, h11, h12, h13, h22, h23, h120, h121, h130, h131, h132, h133, h142, h143⟩ := R
  have v133 : upd a4 23 (nI (t - k)) 133 = nI u := by rw [pk_un (by decide), h133]
  have v121 : upd (upd a4 23 (nI (t - k))) 133 (nI (u + k)) 121 = nI s1 := by rw [pk_un (by decide), pk_un (by decide), h121]
  have v22 : upd (upd (upd a4 23 (nI (t - k))) 133 (nI (u + k))) 121 (nI (s1 - k)) 22 = nI r1 := by rw [pk_un (by decide), pk_un (by decide), pk_un (by decide), h22]
  refine br_f (by decide) (br_f (by decide) ⟨pk_in 11 12 (by decide), nm_r (show a5 (11 : Int32).toNatClampNeg = 1 by rw [ds_n11, p1]) ⟨pk_in 23 144 (by decide) (by decide), pk_in 23 144 (by decide) (by decide), nm_r (ds_e1 ds_i23 h23 hk2)
    ⟨pk_in 133 144 (by decide) (by decide), pk_in 133 144 (by decide) (by decide), nm_r (ds_e2 ds_i133 v133) (nm_r (show (0 : Int32) + 1 = 1 by decide) ?_)⟩⟩⟩)
  refine br_f (by decide) (br_f (by decide) ⟨pk_in 1 12 (by decide), nm_r (show a5 (1 : Int32).toNatClampNeg = 10 by rw [ds_c2, p2]) ⟨pk_in 121 144 (by decide) (by decide), pk_in 121 144 (by decide) (by decide), nm_r (ds_e1 ds_i121 v121 hk)
    ⟨pk_in 22 144 (by decide) (by decide), pk_in 22 144 (by decide) (by decide), nm_r (ds_e2 ds_i22 v22) (nm_r (show (1 : Int32) + 1 = 2 by decide) ?_)⟩⟩⟩)
  refine br_f (by decide) (br_t rfl (H _ ?_))
  refine ⟨by omega, ?_, ?_, ?_, ?_, ?_, ?_, ?_, ?_, ?_, ?_, ?_, ?_, ?_, ?_, ?_, ?_⟩ <;> simp [upd, h0, h1, h10, h11, h12, h13, h120, h130, h131, h132, h142, h143]
theorem ds_71B {post : St2 → Prop} {f1 f2 f3 f4 : Int32} {a1 a2 a3 a4 a5 a6 a7 : Nat → Int32} {s0 s1 c d t r0 r1 u k : Nat} (R : ds_R a4 s0 s1 c d t r0 r1 u)
    (p1 : a5 11 = 1) (p2 : a5 1 = 0) (p3 : a5 0 = 10) (hk : k ≤ s0) (hk1 : k ≤ c) (hk2 : k ≤ t)
    (H : ∀ b4, ds_R b4 (s0 - k) s1 (c - k) (d + k) (t - k) (r0 + k) r1 (u + k) → post (2, f1, f2, f3, f4, a1, a2, a3, b4, a5, a6, a7)) :
    wX_sendAlong_71 post (nI k) 2 f1 f2 f3 f4 4 11 0 a1 a2 a3 a4 a5 a6 a7 := by
  obtain ⟨hb, h0, h1, h10, h11, h12, h13, h22, h23, h120, h121, h130, h131, h132, h133, h142, h143⟩ := R
  have v133 : upd a4 23 (nI (t - k)) 133 = nI u := by rw [pk_un (by decide), h133]
  have v1 : upd (upd a4 23 (nI (t - k))) 133 (nI (u + k)) 1 = nI c := by rw [pk_un (by decide), pk_un (by decide), h1]
  have v12 : upd (upd (upd a4 23 (nI (t - k))) 133 (nI (u + k))) 1 (nI (c - k)) 12 = nI d := by rw [pk_un (by decide), pk_un (by decide), pk_un (by decide), h12]
  have v120 : upd (upd (upd (upd a4 23 (nI (t - k))) 133 (nI (u + k))) 1 (nI (c - k))) 12 (nI (d + k)) 120 = nI s0 := by rw [pk_un (by decide), pk_un (by decide), pk_un (by decide), pk_un (by decide), h120]
  have v10 : upd (upd (upd (upd (upd a4 23 (nI (t - k))) 133 (nI (u + k))) 1 (nI (c - k))) 12 (nI (d + k))) 120 (nI (s0 - k)) 10 = nI r0 := by rw [pk_un (by decide), pk_un (by decide), pk_un (by decide), pk_un (by decide), pk_un (by decide), h10]
  refine br_f (by decide) (br_f (by decide) ⟨pk_in 11 12 (by decide), nm_r (show a5 (11 : Int32).toNatClampNeg = 1 by rw [ds_n11, p1]) ⟨pk_in 23 144 (by decide) (by decide), pk_in 23 144 (by decide) (by decide), nm_r (ds_e1 ds_i23 h23 hk2)
    ⟨pk_in 133 144 (by decide) (by decide), pk_in 133 144 (by decide) (by decide), nm_r (ds_e2 ds_i133 v133) (nm_r (show (0 : Int32) + 1 = 1 by decide) ?_)⟩⟩⟩)
  refine br_f (by decide) (br_f (by decide) ⟨pk_in 1 12 (by decide), nm_r (show a5 (1 : Int32).toNatClampNeg = 0 by rw [ds_c2, p2]) ⟨pk_in 1 144 (by decide) (by decide), pk_in 1 144 (by decide) (by decide), nm_r (ds_e1 ds_i1 v1 hk1)
    ⟨pk_in 12 144 (by decide) (by decide), pk_in 12 144 (by decide) (by decide), nm_r (ds_e2 ds_i12 v12) (nm_r (show (1 : Int32) + 1 = 2 by decide) ?_)⟩⟩⟩)
  refine br_f (by decide) (br_f (by decide) ⟨pk_in 0 12 (by decide), nm_r (show a5 (0 : Int32).toNatClampNeg = 10 by rw [sb_cl0, p3]) ⟨pk_in 120 144 (by decide) (by decide), pk_in 120 144 (by decide) (by decide), nm_r (ds_e1 ds_i120 v120 hk)
    ⟨pk_in 10 144 (by decide) (by decide), pk_in 10 144 (by decide) (by decide), nm_r (ds_e2 ds_i10 v10) (nm_r (show (2 : Int32) + 1 = 3 by decide) ?_)⟩⟩⟩)
  refine br_f (by decide) (br_t rfl (H _ ?_))
  refine ⟨by omega, ?_, ?_, ?_, ?_, ?_, ?_, ?_, ?_, ?_, ?_, ?_, ?_, ?_, ?_, ?_, ?_⟩ <;> simp [upd, h0, h11, h13, h22, h121, h130, h131, h132, h142, h143]
theorem ds_sC {post : St2 → Prop} {f1 f2 f3 f4 : Int32} {a1 a2 a3 a4 a5 a6 a7 : Nat → Int32} {s0 s1 c d t r0 r1 u : Nat} (R : ds_R a4 s0 s1 c d t r0 r1 u)
    (p1 : a5 11 = 1) (p2 : a5 1 = 10)
    (H : ∀ b4, ds_R b4 s0 (s1 - min s1 t) c d (t - min s1 t) r0 (r1 + min s1 t) (u + min s1 t) → post (2, f1, f2, f3, f4, a1, a2, a3, b4, a5, a6, a7)) :
    wpX_sendAlong post (2, f1, f2, f3, f4, a1, a2, a3, a4, a5, a6, a7) := by
  have R' := R
  obtain ⟨hb, h0, h1, h10, h11, h12, h13, h22, h23, h120, h121, h130, h131, h132, h133, h142, h143⟩ := R'
  unfold wpX_sendAlong
  dsimp only
  refine ⟨3, br_f (by decide) (br_f (by decide) ⟨pk_in 11 12 (by decide), nm_r (show a5 (11 : Int32).toNatClampNeg = 1 by rw [ds_n11, p1]) ⟨pk_in 23 144 (by decide) (by decide), ?_⟩⟩)⟩
  rw [ds_i23, h23]
  refine pk_le 2000000 t (fun z => absurd z (by omega)) (fun _ => ⟨pk_in 23 144 (by decide) (by decide), nm_e (nm_r (show (0 : Int32) + 1 = 1 by decide) ?_)⟩)
  refine br_f (by decide) (br_f (by decide) ⟨pk_in 1 12 (by decide), nm_r (show a5 (1 : Int32).toNatClampNeg = 10 by rw [ds_c2, p2]) ⟨pk_in 121 144 (by decide) (by decide), ?_⟩⟩)
  rw [ds_i121, h121]
  refine pk_le t s1 (fun z => nm_r (show (1 : Int32) + 1 = 2 by decide) ?_) (fun z => ⟨pk_in 121 144 (by decide) (by decide), nm_e (nm_r (show (1 : Int32) + 1 = 2 by decide) ?_)⟩)
  · rw [show min s1 t = t by omega] at H
    exact br_f (by decide) (br_t rfl ⟨3, ds_71C R p1 p2 z (Nat.le_refl t) H⟩)
  · rw [show min s1 t = s1 by omega] at H
    exact br_f (by decide) (br_t rfl ⟨3, ds_71C R p1 p2 (Nat.le_refl s1) (by omega) H⟩)
theorem ds_sB {post : St2 → Prop} {f1 f2 f3 f4 : Int32} {a1 a2 a3 a4 a5 a6 a7 : Nat → Int32} {s0 s1 c d t r0 r1 u : Nat} (R : ds_R a4 s0 s1 c d t r0 r1 u)
    (p1 : a5 11 = 1) (p2 : a5 1 = 0) (p3 : a5 0 = 10)
    (H : ∀ k b4, k = min s0 (min c t) → ds_R b4 (s0 - k) s1 (c - k) (d + k) (t - k) (r0 + k) r1 (u + k) → post (2, f1, f2, f3, f4, a1, a2, a3, b4, a5, a6, a7)) :
    wpX_sendAlong post (2, f1, f2, f3, f4, a1, a2, a3, a4, a5, a6, a7) := by
  have R' := R
  obtain ⟨hb, h0, h1, h10, h11, h12, h13, h22, h23, h120, h121, h130, h131, h132, h133, h142, h143⟩ := R'
  have last : ∀ w, w = min c t → wX_sendAlong_8 post 2 f1 f2 f3 f4 a1 a2 a3 a4 a5 a6 a7 2 (nI w) 0 2 := by
    intro w hw
    refine br_f (by decide) (br_f (by decide) ⟨pk_in 0 12 (by decide), nm_r (show a5 (0 : Int32).toNatClampNeg = 10 by rw [sb_cl0, p3]) ⟨pk_in 120 144 (by decide) (by decide), ?_⟩⟩)
    rw [ds_i120, h120]
    refine pk_le w s0 (fun z => nm_r (show (2 : Int32) + 1 = 3 by decide) ?_) (fun z => ⟨pk_in 120 144 (by decide) (by decide), nm_e (nm_r (show (2 : Int32) + 1 = 3 by decide) ?_)⟩)
    · exact br_f (by decide) (br_t rfl ⟨4, ds_71B R p1 p2 p3 z (by omega) (by omega) (fun b4 => H w b4 (by omega))⟩)
    · exact br_f (by decide) (br_t rfl ⟨4, ds_71B R p1 p2 p3 (Nat.le_refl s0) (by omega) (by omega) (fun b4 => H s0 b4 (by omega))⟩)
  unfold wpX_sendAlong
  dsimp only
  refine ⟨4, br_f (by decide) (br_f (by decide) ⟨pk_in 11 12 (by decide), nm_r (show a5 (11 : Int32).toNatClampNeg = 1 by rw [ds_n11, p1]) ⟨pk_in 23 144 (by decide) (by decide), ?_⟩⟩)⟩
  rw [ds_i23, h23]
  refine pk_le 2000000 t (fun z => absurd z (by omega)) (fun _ => ⟨pk_in 23 144 (by decide) (by decide), nm_e (nm_r (show (0 : Int32) + 1 = 1 by decide) ?_)⟩)
  refine br_f (by decide) (br_f (by decide) ⟨pk_in 1 12 (by decide), nm_r (show a5 (1 : Int32).toNatClampNeg = 0 by rw [ds_c2, p2]) ⟨pk_in 1 144 (by decide) (by decide), ?_⟩⟩)
  rw [ds_i1, h1]
  exact pk_le t c (fun z => nm_r (show (1 : Int32) + 1 = 2 by decide) (last t (by omega))) (fun z => ⟨pk_in 1 144 (by decide) (by decide), nm_e (nm_r (show (1 : Int32) + 1 = 2 by decide) (last c (by omega)))⟩)
end
section
/-! the search back from the sink, and the set of the cut -/
theorem ds_116y {post : St2 → Prop} {J : Int32 → Int32 → (Nat → Int32) → (Nat → Int32) → (Nat → Int32) → (Nat → Int32) → (Nat → Int32) → (Nat → Int32) → (Nat → Int32) → Prop} {xi f1 f2 f3 f4 : Int32} {a1 a2 a3 a4 a5 a6 a7 : Nat → Int32} {g : Nat → Nat → Bool} {y x n : Nat} {s : Nat × (Nat → Int32) × (Nat → Nat)}
    (hy : y < 12) (hx : ds_nd x) (he : s.1 < 12) (R : ds_F s a7 a6) (hg : g x y = true ↔ ¬ a4 (x * 12 + y) ≤ 0)
    (H : ∀ b7 b6, ds_F (ds_ry g y x s) b7 b6 → wX_cut_116 post J xi (nI y) 2 f1 f2 f3 f4 n (nI (ds_ry g y x s).1) (nI (x + 1)) a1 a2 a3 a4 a5 b6 b7) :
    wX_cut_116 post J xi (nI y) 2 f1 f2 f3 f4 (n + 1) (nI s.1) (nI x) a1 a2 a3 a4 a5 a6 a7 := by
  have hx12 : x < 12 := ds_nd12 hx
  refine pk_le 12 x (fun z => absurd z (by omega)) (fun _ => ds_n1 hx ?_)
  refine br_f (by decide) ⟨pk_in x 12 hx12, ?_⟩
  rw [ds_ix, nI_clamp (show x < 2 ^ 31 by omega), nI_clamp (show x * 12 + y < 2 ^ 31 by omega), nI_clamp (show s.1 < 2 ^ 31 by omega)]
  refine br_c (fun h0 => ⟨pk_in (x * 12 + y) 144 (by omega), br_c (fun h1 => nm_r (nI_1 x) ?_) (fun h1 => ⟨pk_in x 12 hx12, nm_e ⟨pk_in s.1 12 he, nm_e (nm_r (nI_1 s.1) (nm_r (nI_1 x) ?_))⟩⟩)⟩) (fun h0 => nm_r (nI_1 x) ?_)
  · have e : ds_ry g y x s = s := by
      unfold ds_ry
      rw [if_pos (by rw [← R.1 x hx12]; exact h0), if_neg (fun z => (hg.mp z) h1)]
    rw [e] at H
    exact H a7 a6 R
  · have e : ds_ry g y x s = (s.1 + 1, upd s.2.1 x 1, ds_up s.2.2 s.1 x) := by
      unfold ds_ry
      rw [if_pos (by rw [← R.1 x hx12]; exact h0), if_pos (hg.mpr h1)]
    rw [e] at H
    exact H _ _ (ds_Fadd R x x 1)
  · have e : ds_ry g y x s = s := by
      unfold ds_ry
      rw [if_neg (by rw [← R.1 x hx12]; exact h0)]
    rw [e] at H
    exact H a7 a6 R
theorem ds_116z {post : St2 → Prop} {J : Int32 → Int32 → (Nat → Int32) → (Nat → Int32) → (Nat → Int32) → (Nat → Int32) → (Nat → Int32) → (Nat → Int32) → (Nat → Int32) → Prop} {xi xe y f1 f2 f3 f4 : Int32} {a1 a2 a3 a4 a5 a6 a7 : Nat → Int32} {n : Nat} (x : Nat) (h2 : 2 ≤ x) (h10 : x < 10)
    (H : wX_cut_116 post J xi y 2 f1 f2 f3 f4 n xe (nI (x + 1)) a1 a2 a3 a4 a5 a6 a7) :
    wX_cut_116 post J xi y 2 f1 f2 f3 f4 (n + 1) xe (nI x) a1 a2 a3 a4 a5 a6 a7 :=
  pk_le 12 x (fun z => absurd z (by omega)) (fun _ => ds_n0 h2 h10 (br_t rfl (nm_r (nI_1 x) H)))
theorem ds_116s {post : St2 → Prop} {J : Int32 → Int32 → (Nat → Int32) → (Nat → Int32) → (Nat → Int32) → (Nat → Int32) → (Nat → Int32) → (Nat → Int32) → (Nat → Int32) → Prop} {xi xe y f1 f2 f3 f4 : Int32} {a1 a2 a3 a4 a5 a6 a7 : Nat → Int32}
    (H : wX_cut_116 post J xi y 2 f1 f2 f3 f4 3 xe (nI 10) a1 a2 a3 a4 a5 a6 a7) :
    wX_cut_116 post J xi y 2 f1 f2 f3 f4 11 xe (nI 2) a1 a2 a3 a4 a5 a6 a7 :=
  ds_116z 2 (by omega) (by omega) (ds_116z 3 (by omega) (by omega) (ds_116z 4 (by omega) (by omega) (ds_116z 5 (by omega) (by omega) (ds_116z 6 (by omega) (by omega) (ds_116z 7 (by omega) (by omega) (ds_116z 8 (by omega) (by omega) (ds_116z 9 (by omega) (by omega) H)))))))
theorem ds_116 {post : St2 → Prop} {J : Int32 → Int32 → (Nat → Int32) → (Nat → Int32) → (Nat → Int32) → (Nat → Int32) → (Nat → Int32) → (Nat → Int32) → (Nat → Int32) → Prop} {xi f1 f2 f3 f4 : Int32} {a1 a2 a3 a4 a5 a6 a7 : Nat → Int32} {g : Nat → Nat → Bool} {y : Nat} {s : Nat × (Nat → Int32) × (Nat → Nat)}
    (hy : ds_nd y) (he : s.1 ≤ 8) (R : ds_F s a7 a6) (hg : ∀ x, ds_nd x → (g x y = true ↔ ¬ a4 (x * 12 + y) ≤ 0))
    (H : ∀ b7 b6, ds_F (ds_rx g y s) b7 b6 → J (nI (ds_rx g y s).1) (xi + 1) a1 a2 a3 a4 a5 b6 b7) :
    wX_cut_116 post J xi (nI y) 2 f1 f2 f3 f4 13 (nI s.1) (nI 0) a1 a2 a3 a4 a5 a6 a7 := by
  have hy12 : y < 12 := ds_nd12 hy
  have b1 := ds_ryl g y 0 s
  have b2 := ds_ryl g y 1 (ds_ry g y 0 s)
  have b3 := ds_ryl g y 10 (ds_ry g y 1 (ds_ry g y 0 s))
  have t1 : (ds_ry g y 0 s).1 < 12 := by omega
  have t2 : (ds_ry g y 1 (ds_ry g y 0 s)).1 < 12 := by omega
  have t3 : (ds_ry g y 10 (ds_ry g y 1 (ds_ry g y 0 s))).1 < 12 := by omega
  refine ds_116y (n := 12) hy12 ds_nd0 (by omega) R (hg 0 ds_nd0) (fun c5 c6 R1 => ?_)
  refine ds_116y (n := 11) hy12 ds_nd1 t1 R1 (hg 1 ds_nd1) (fun d5 d6 R2 => ?_)
  refine ds_116s ?_
  refine ds_116y (n := 2) hy12 ds_nd10 t2 R2 (hg 10 ds_nd10) (fun e5 e6 R3 => ?_)
  refine ds_116y (n := 1) hy12 ds_nd11 t3 R3 (hg 11 ds_nd11) (fun k5 k6 R4 => ?_)
  exact pk_le 12 12 (fun _ => nm_e (H k5 k6 R4)) (fun z => absurd z (by omega))
theorem ds_rxl (g : Nat → Nat → Bool) (y : Nat) (s : Nat × (Nat → Int32) × (Nat → Nat)) : (ds_rx g y s).1 ≤ s.1 + 4 := by
  have b1 := ds_ryl g y 0 s
  have b2 := ds_ryl g y 1 (ds_ry g y 0 s)
  have b3 := ds_ryl g y 10 (ds_ry g y 1 (ds_ry g y 0 s))
  have b4 := ds_ryl g y 11 (ds_ry g y 10 (ds_ry g y 1 (ds_ry g y 0 s)))
  unfold ds_rx
  omega
theorem ds_90 {post : St2 → Prop} {f1 f2 f3 f4 : Int32} {a1 a2 a3 a4 a5 : Nat → Int32} {g : Nat → Nat → Bool} {c : Nat → Int32}
    (hg : ∀ x y, ds_nd x → ds_nd y → (g x y = true ↔ ¬ a4 (x * 12 + y) ≤ 0))
    (H : ∀ b7 b6, (∀ j, j < 12 → b7 j = c j) → ∃ fu, wX_cut_198 post 2 f2 f3 f4 a1 a2 a3 a4 a5 b6 b7 fu 0 0) :
    ∀ (n i : Nat) (s : Nat × (Nat → Int32) × (Nat → Nat)) (a7 a6 : Nat → Int32), ds_ro g n i s = some c → ds_F s a7 a6 → s.1 ≤ 12 → i ≤ 12 →
      wX_cut_90 post 2 f1 f2 f3 f4 n (nI s.1) (nI i) a1 a2 a3 a4 a5 a6 a7 := by
  intro n
  induction n with
  | zero =>
    intro i s a7 a6 h
    have h' : (none : Option (Nat → Int32)) = some c := h
    cases h'
  | succ n ih =>
    intro i s a7 a6 h R hs hi
    unfold ds_ro at h
    by_cases h1 : s.1 ≤ i
    · rw [if_pos h1] at h
      have hc : s.2.1 = c := Option.some.inj h
      exact pk_le s.1 i (fun _ => H a7 a6 (fun j hj => by rw [R.1 j hj, hc])) (fun z => absurd z (by omega))
    · rw [if_neg h1] at h
      by_cases h2 : s.1 ≤ 8 ∧ ds_ndb (s.2.2 i) = true
      · rw [if_pos h2] at h
        have hl := ds_rxl g (s.2.2 i) s
        have h3 := h2.1
        have hn := ds_ndI h2.2
        refine pk_le s.1 i (fun z => absurd z h1) (fun z => pk_le 12 i (fun z2 => absurd z2 (by omega)) (fun _ => ⟨pk_in i 12 (by omega), nm_r (show a6 (nI i).toNatClampNeg = nI (s.2.2 i) by rw [nI_clamp (by omega)]; exact R.2 i z) ⟨13, ?_⟩⟩))
        refine ds_116 hn h3 R (fun x hx => hg x _ hx hn) (fun b7 b6 R' => ?_)
        rw [nI_1]
        exact ih (i + 1) _ b7 b6 h R' (by omega) (by omega)
      · rw [if_neg h2] at h
        cases h
theorem ds_44 {post : St2 → Prop} {f1 f2 f3 f4 : Int32} {a1 a2 a3 a4 a5 a6 a7 : Nat → Int32} {g : Nat → Nat → Bool} {c : Nat → Int32}
    (hex : ds_ro g 6 0 ds_r0 = some c) (hg : ∀ x y, ds_nd x → ds_nd y → (g x y = true ↔ ¬ a4 (x * 12 + y) ≤ 0))
    (H : ∀ b7 b6, (∀ j, j < 12 → b7 j = c j) → ∃ fu, wX_cut_198 post 2 f2 f3 f4 a1 a2 a3 a4 a5 b6 b7 fu 0 0) :
    ∃ fu, wX_cut_44 post 2 f1 f2 f3 f4 fu 0 a1 a2 a3 a4 a5 a6 a7 := by
  refine pk_loop (fun n i s => wX_cut_44 post 2 f1 f2 f3 f4 n (nI i) a1 a2 a3 a4 a5 a6 s) (fun i s => ∀ j, j < i → s j = upd (fun _ => 0) 11 1 j) 12 0 a7 (by omega) (fun j hj => absurd hj (by omega)) (fun n s h => ?_) (fun n i s hi h hw => ?_)
  · refine pk_le 12 12 (fun _ => nm_e ⟨6, ds_90 hg H 6 0 ds_r0 s (upd a6 0 11) hex ⟨h, fun j hj => ?_⟩ (by decide) (by decide)⟩) (fun z => absurd z (by omega))
    have hj1 : j < 1 := hj
    have e : j = 0 := by omega
    rw [e]
    exact pk_us
  · refine pk_le 12 i (fun z => absurd z (by omega)) (fun _ => pk_eq i 11 (fun z => ⟨pk_in i 12 hi, nm_e (nm_r (nI_1 i) (hw _ (fun j hj => ?_)))⟩) (fun z => ⟨pk_in i 12 hi, nm_e (nm_r (nI_1 i) (hw _ (fun j hj => ?_)))⟩))
    · rw [nI_clamp (show i < 2 ^ 31 by omega)]
      by_cases ej : j = i
      · rw [ej, pk_us, z, pk_us]
      · rw [pk_un ej]
        exact h j (by omega)
    · rw [nI_clamp (show i < 2 ^ 31 by omega)]
      by_cases ej : j = i
      · rw [ej, pk_us, pk_un z]
      · rw [pk_un ej]
        exact h j (by omega)
/-- the set of the cut at the end: both vertices, or vertex 0 -/
theorem ds_end {post : St2 → Prop} {f1 f2 f3 f4 : Int32} {a1 a2 a3 a4 a5 a6 a7 : Nat → Int32} {s0 s1 c d t r0 r1 u v : Nat} (R : ds_R a4 s0 s1 c d t r0 r1 u)
    (hv : (t = 0 ∧ v = 3) ∨ (0 < t ∧ s1 = 0 ∧ c = 0 ∧ v = 1))
    (H : ∀ b6 b7, post (2, nI v, f2, f3, f4, a1, a2, a3, a4, a5, b6, b7)) :
    ∃ fu, wX_cut_44 post 2 f1 f2 f3 f4 fu 0 a1 a2 a3 a4 a5 a6 a7 := by
  obtain ⟨k, hk, k1, k2⟩ := ds_rcx (decide (0 < s0)) (decide (0 < s1)) (decide (0 < c)) (decide (0 < d)) (decide (0 < t)) (decide (0 < r0)) (decide (0 < r1)) (decide (0 < u))
  simp only [decide_eq_true_eq] at k1 k2
  refine ds_44 hk (ds_Rg R) (fun b7 b6 hb => ⟨3, ?_⟩)
  have g0 := hb 0 (by decide)
  have g1 := hb 1 (by decide)
  rcases hv with ⟨v1, v2⟩ | ⟨v1, v2, v3, v4⟩
  · obtain ⟨e0, e1⟩ := k1 (by omega)
    rw [e0] at g0
    rw [e1] at g1
    subst v2
    refine br_f (by decide) ⟨pk_in 0 12 (by decide), br_t (show b7 (0 : Int32).toNatClampNeg = 0 by rw [sb_cl0, g0]) (nm_r (show (0 : Int32) ||| ((1 : Int32) <<< ((0 : Int32) &&& 31)) = 1 by decide) (nm_r (show (0 : Int32) + 1 = 1 by decide) ?_))⟩
    refine br_f (by decide) ⟨pk_in 1 12 (by decide), br_t (show b7 (1 : Int32).toNatClampNeg = 0 by rw [ds_c2, g1]) (nm_r (show (1 : Int32) ||| ((1 : Int32) <<< ((1 : Int32) &&& 31)) = nI 3 by decide) (nm_r (show (1 : Int32) + 1 = 2 by decide) ?_))⟩
    exact br_t (by decide) (H b6 b7)
  · obtain ⟨e0, e1⟩ := k2 v1 (by omega) (by omega)
    rw [e0] at g0
    rw [e1] at g1
    subst v4
    refine br_f (by decide) ⟨pk_in 0 12 (by decide), br_t (show b7 (0 : Int32).toNatClampNeg = 0 by rw [sb_cl0, g0]) (nm_r (show (0 : Int32) ||| ((1 : Int32) <<< ((0 : Int32) &&& 31)) = nI 1 by decide) (nm_r (show (0 : Int32) + 1 = 1 by decide) ?_))⟩
    refine br_f (by decide) ⟨pk_in 1 12 (by decide), br_f (show ¬ b7 (1 : Int32).toNatClampNeg = 0 by rw [ds_c2, g1]; decide) (nm_r (show (1 : Int32) + 1 = 2 by decide) ?_)⟩
    exact br_t (by decide) (H b6 b7)
end
section
/-! cut -/
theorem ds_14A {post : St2 → Prop} {f1 f2 f3 f4 : Int32} {a1 a2 a3 a4 a5 a6 a7 : Nat → Int32} {s0 s1 c d t r0 r1 u v n i : Nat} (R : ds_R a4 s0 s1 c d t r0 r1 u) (hi : i < 4000)
    (hv : (t = 0 ∧ v = 3) ∨ (0 < t ∧ s1 = 0 ∧ c = 0 ∧ v = 1))
    (H : ∀ b4 b5 b6 b7, post (2, nI v, f2, f3, f4, a1, a2, a3, b4, b5, b6, b7)) :
    wX_cut_14 post (n + 1) 0 (nI i) 2 f1 f2 f3 f4 a1 a2 a3 a4 a5 a6 a7 :=
  pk_le 4000 i (fun z => absurd z (by omega)) (fun _ => br_t rfl (ds_end R hv (fun b6 b7 => H a4 a5 b6 b7)))
theorem ds_14B {post : St2 → Prop} {f1 f2 f3 f4 : Int32} {a1 a2 a3 a4 a5 a6 a7 : Nat → Int32} {s0 s1 c d t r0 r1 u v n i : Nat} (R : ds_R a4 s0 s1 c d t r0 r1 u) (hi : i < 3000)
    (p1 : a5 11 = 1) (p2 : a5 1 = 0) (p3 : a5 0 = 10) (hs : s1 = 0)
    (hv : (t - min s0 (min c t) = 0 ∧ v = 3) ∨ (0 < t - min s0 (min c t) ∧ c - min s0 (min c t) = 0 ∧ v = 1))
    (H : ∀ b4 b5 b6 b7, post (2, nI v, f2, f3, f4, a1, a2, a3, b4, b5, b6, b7)) :
    wX_cut_14 post (n + 2) 1 (nI i) 2 f1 f2 f3 f4 a1 a2 a3 a4 a5 a6 a7 := by
  refine pk_le 4000 i (fun z => absurd z (by omega)) (fun _ => br_f (by decide) (ds_sB R p1 p2 p3 (fun k b4 hk R' => ?_)))
  dsimp only
  refine ds_fA R' (by omega) (by omega) (fun b5 b6 => ?_)
  dsimp only
  exact nm_r (nI_1 i) (ds_14A R' (by omega) (by omega) H)
theorem ds_14C {post : St2 → Prop} {f1 f2 f3 f4 : Int32} {a1 a2 a3 a4 a5 a6 a7 : Nat → Int32} {s0 s1 c d t r0 r1 u v n i : Nat} (R : ds_R a4 s0 s1 c d t r0 r1 u) (hi : i < 2000)
    (p1 : a5 11 = 1) (p2 : a5 1 = 10)
    (hv : (t - min s1 t - min s0 (min c (t - min s1 t)) = 0 ∧ v = 3) ∨ (0 < t - min s1 t - min s0 (min c (t - min s1 t)) ∧ c - min s0 (min c (t - min s1 t)) = 0 ∧ v = 1))
    (H : ∀ b4 b5 b6 b7, post (2, nI v, f2, f3, f4, a1, a2, a3, b4, b5, b6, b7)) :
    wX_cut_14 post (n + 3) 1 (nI i) 2 f1 f2 f3 f4 a1 a2 a3 a4 a5 a6 a7 := by
  refine pk_le 4000 i (fun z => absurd z (by omega)) (fun _ => br_f (by decide) (ds_sC R p1 p2 (fun b4 R' => ?_)))
  dsimp only
  by_cases h : 0 < s0 ∧ 0 < c ∧ 0 < t - min s1 t
  · refine ds_fB R' (by omega) h (fun b5 b6 q1 q2 q3 => ?_)
    dsimp only
    exact nm_r (nI_1 i) (ds_14B R' (by omega) q1 q2 q3 (by omega) (by omega) H)
  · refine ds_fA R' (by omega) h (fun b5 b6 => ?_)
    dsimp only
    exact nm_r (nI_1 i) (ds_14A R' (by omega) (by omega) H)
theorem ds_cut {post : St2 → Prop} {G P f1 f2 f3 f4 : Int32} {a1 a2 a3 a4 a5 a6 a7 : Nat → Int32} {e b m s0 c q t S T v : Nat} (D : ds_D e b m a1 a2 a3)
    (hb : s0 + q + c + c + t < 900000) (hG0 : G * nI 0 = nI 0) (hGe : G * nI e = nI c) (hA0 : (2 * G) * nI b - 2 * P + nI 0 + nI c = nI s0)
    (hA1 : ((2 * G) * nI 0 - 2 * P + nI c + nI 0 = -nI t ∧ q = 0) ∨ ((2 * G) * nI 0 - 2 * P + nI c + nI 0 = nI q ∧ 0 < q ∧ t = 0))
    (hS : (if m = 1 then 1000000 else q) = S) (hT : (if m = 2 then 1000000 else t) = T)
    (hv : (T - min S T - min s0 (min c (T - min S T)) = 0 ∧ v = 3) ∨ (0 < T - min S T - min s0 (min c (T - min S T)) ∧ c - min s0 (min c (T - min S T)) = 0 ∧ v = 1))
    (H : ∀ b4 b5 b6 b7, post (2, nI v, f2, f3, f4, a1, a2, a3, b4, b5, b6, b7)) :
    wpX_cut post (2, f1, f2, f3, f4, a1, a2, a3, a4, a5, a6, a7) G P := by
  unfold wpX_cut
  dsimp only
  refine ds_bn D hb hG0 hGe hA0 hA1 (fun b4 R => ?_)
  dsimp only
  rw [hS, hT] at R
  by_cases h : 0 < S ∧ 0 < T
  · refine ds_fC R h (fun b5 b6 q1 q2 => ?_)
    dsimp only
    exact ⟨3, ds_14C (n := 0) (i := 0) R (by decide) q1 q2 hv H⟩
  · by_cases h2 : 0 < s0 ∧ 0 < c ∧ 0 < T
    · refine ds_fB R (by omega) h2 (fun b5 b6 q1 q2 q3 => ?_)
      dsimp only
      exact ⟨2, ds_14B (n := 0) (i := 0) R (by decide) q1 q2 q3 (by omega) (by omega) H⟩
    · refine ds_fA R h h2 (fun b5 b6 => ?_)
      dsimp only
      exact ⟨1, ds_14A (n := 0) (i := 0) R (by decide) (by omega) H⟩
theorem ds_gn12 (T : Nat) : ds_gn T = 1 ∨ ds_gn T = 2 := by
  unfold ds_gn
  by_cases h : T % 2 = 0
  · rw [if_pos h]; exact Or.inl rfl
  · rw [if_neg h]; exact Or.inr rfl
/-- the first cut where the pair is the answer, and where it is not -/
theorem ds_cut3 {post : St2 → Prop} {f1 f2 f3 f4 : Int32} {a1 a2 a3 a4 a5 a6 a7 : Nat → Int32} {e b m v : Nat} (D : ds_D e b m a1 a2 a3)
    (hv : ((m = 1 ∨ (m = 0 ∧ b ≤ e)) ∧ v = 3) ∨ (m = 0 ∧ e < b ∧ v = 1))
    (H : ∀ b4 b5 b6 b7, post (2, nI v, f2, f3, f4, a1, a2, a3, b4, b5, b6, b7)) :
    wpX_cut post (2, f1, f2, f3, f4, a1, a2, a3, a4, a5, a6, a7) (nI (ds_gn (e + b))) (nI (ds_pn (e + b))) := by
  have he : e ≤ 20 := D.1
  have hb : b ≤ 20 := D.2.1
  obtain ⟨x1, x2, _, _⟩ := ds_ar1 e (by omega) b (by omega)
  have hm2 : ¬ m = 2 := by omega
  have g0 : nI (ds_gn (e + b)) * nI 0 = nI 0 := by rw [pk_mul, Nat.mul_zero]
  have g1 : nI (ds_gn (e + b)) * nI e = nI (ds_gn (e + b) * e) := pk_mul _ _
  have hg := ds_gn12 (e + b)
  generalize ds_gn (e + b) = g at *
  by_cases hm : m = 1
  · refine ds_cut (S := 1000000) (T := g * b) (v := v) D (q := 0) ?_ g0 g1 x1 (Or.inl ⟨x2, rfl⟩) (if_pos hm) (if_neg hm2) ?_ H
    · rcases hg with rfl | rfl <;> omega
    · rcases hg with rfl | rfl <;> omega
  · refine ds_cut (S := 0) (T := g * b) (v := v) D (q := 0) ?_ g0 g1 x1 (Or.inl ⟨x2, rfl⟩) (if_neg hm) (if_neg hm2) ?_ H
    · rcases hg with rfl | rfl <;> omega
    · rcases hg with rfl | rfl <;> omega
theorem ds_cut1 {post : St2 → Prop} {f1 f2 f3 f4 : Int32} {a1 a2 a3 a4 a5 a6 a7 : Nat → Int32} {e b m : Nat} (D : ds_D e b m a1 a2 a3)
    (hv : m = 2 ∨ (m = 0 ∧ e < b))
    (H : ∀ b4 b5 b6 b7, post (2, nI 1, f2, f3, f4, a1, a2, a3, b4, b5, b6, b7)) :
    wpX_cut post (2, f1, f2, f3, f4, a1, a2, a3, a4, a5, a6, a7) (nI 1) (nI b) := by
  have he : e ≤ 20 := D.1
  have hb : b ≤ 20 := D.2.1
  obtain ⟨x1, x2, x3, _⟩ := ds_ar2 e (by omega) b (by omega)
  have g0 : nI 1 * nI 0 = nI 0 := by rw [pk_mul, Nat.mul_zero]
  have g1 : nI 1 * nI e = nI e := by rw [pk_mul, Nat.one_mul]
  have hm1 : ¬ m = 1 := by omega
  by_cases h : e ≤ 2 * b
  · by_cases hm : m = 2
    · exact ds_cut (S := 0) (T := 1000000) (v := 1) D (q := 0) (t := 2 * b - e) (by omega) g0 g1 x1 (Or.inl ⟨x2 h, rfl⟩) (if_neg hm1) (if_pos hm) (by omega) H
    · exact ds_cut (S := 0) (T := 2 * b - e) (v := 1) D (q := 0) (t := 2 * b - e) (by omega) g0 g1 x1 (Or.inl ⟨x2 h, rfl⟩) (if_neg hm1) (if_neg hm) (by omega) H
  · have hm : m = 2 := by omega
    exact ds_cut (S := e - 2 * b) (T := 1000000) (v := 1) D (q := e - 2 * b) (t := 0) (by omega) g0 g1 x1 (Or.inr ⟨x3 (by omega), by omega, rfl⟩) (if_neg hm1) (if_pos hm) (by omega) H
end
section
/-! solve -/
theorem ds_49z {post : Int32 → St2 → Prop} {f1 f2 f3 f4 : Int32} {a1 a2 a3 a4 a5 a6 a7 : Nat → Int32} {n i : Nat} (hi : i < 64) (h : post 1 (2, f1, f2, f3, f4, a1, a2, a3, a4, a5, a6, a7)) :
    wX_solve_49 post (n + 1) 0 (nI i) 2 f1 f2 f3 f4 a1 a2 a3 a4 a5 a6 a7 :=
  pk_le 64 i (fun z => absurd z (by omega)) (fun _ => br_t rfl h)
/-- the last round at vertex 0 alone -/
theorem ds_49n {post : Int32 → St2 → Prop} {f1 f4 : Int32} {a1 a2 a3 a4 a5 a6 a7 : Nat → Int32} {e b m n i : Nat} (D : ds_D e b m a1 a2 a3) (hi : i < 60)
    (hv : m = 2 ∨ (m = 0 ∧ e < b)) (H : ∀ x b4 b5 b6 b7, post 1 (2, x, nI b, nI 1, nI 1, a1, a2, a3, b4, b5, b6, b7)) :
    wX_solve_49 post (n + 2) 1 (nI i) 2 f1 (nI b) (nI 1) f4 a1 a2 a3 a4 a5 a6 a7 := by
  have he : e ≤ 20 := D.1
  have hb : b ≤ 20 := D.2.1
  obtain ⟨_, _, _, x4⟩ := ds_ar2 e (by omega) b (by omega)
  refine pk_le 64 i (fun z => absurd z (by omega)) (fun _ => br_f (by decide) (ds_cut1 D hv (fun b4 b5 b6 b7 => ?_)))
  dsimp only
  refine ds_v1 D ?_
  refine br_t x4 ?_
  exact br_t rfl (nm_r (nI_1 i) (ds_49z (by omega) (H _ _ _ _ _)))
theorem ds_49p {post : Int32 → St2 → Prop} {f1 f4 : Int32} {a1 a2 a3 a4 a5 a6 a7 : Nat → Int32} {e b m n i : Nat} (D : ds_D e b m a1 a2 a3) (hi : i < 60)
    (hv : m = 1 ∨ (m = 0 ∧ b ≤ e)) (H : ∀ x b4 b5 b6 b7, post 1 (2, x, nI (ds_pn (e + b)), nI (ds_gn (e + b)), nI 3, a1, a2, a3, b4, b5, b6, b7)) :
    wX_solve_49 post (n + 2) 1 (nI i) 2 f1 (nI (ds_pn (e + b))) (nI (ds_gn (e + b))) f4 a1 a2 a3 a4 a5 a6 a7 := by
  have he : e ≤ 20 := D.1
  have hb : b ≤ 20 := D.2.1
  obtain ⟨_, _, x3, _⟩ := ds_ar1 e (by omega) b (by omega)
  refine pk_le 64 i (fun z => absurd z (by omega)) (fun _ => br_f (by decide) (ds_cut3 (v := 3) D (Or.inl ⟨hv, rfl⟩) (fun b4 b5 b6 b7 => ?_)))
  dsimp only
  refine ds_v3 D ?_
  refine br_t x3 ?_
  exact br_t rfl (nm_r (nI_1 i) (ds_49z (by omega) (H _ _ _ _ _)))
theorem ds_49q {post : Int32 → St2 → Prop} {f1 f4 : Int32} {a1 a2 a3 a4 a5 a6 a7 : Nat → Int32} {e b m n i : Nat} (D : ds_D e b m a1 a2 a3) (hi : i < 50)
    (hm : m = 0) (hv : e < b) (H : ∀ x b4 b5 b6 b7, post 1 (2, x, nI b, nI 1, nI 1, a1, a2, a3, b4, b5, b6, b7)) :
    wX_solve_49 post (n + 3) 1 (nI i) 2 f1 (nI (ds_pn (e + b))) (nI (ds_gn (e + b))) f4 a1 a2 a3 a4 a5 a6 a7 := by
  have he : e ≤ 20 := D.1
  have hb : b ≤ 20 := D.2.1
  obtain ⟨_, _, _, x4⟩ := ds_ar1 e (by omega) b (by omega)
  refine pk_le 64 i (fun z => absurd z (by omega)) (fun _ => br_f (by decide) (ds_cut3 (v := 1) D (Or.inr ⟨hm, hv, rfl⟩) (fun b4 b5 b6 b7 => ?_)))
  dsimp only
  refine ds_v1 D ?_
  refine br_f (x4 hv) ?_
  refine br_f (by decide) (ds_t1 D ?_)
  dsimp only
  exact nm_r (nI_1 i) (ds_49n D (by omega) (Or.inr ⟨hm, hv⟩) H)
theorem ds_sP {post : Int32 → St2 → Prop} {f1 f2 f3 f4 : Int32} {a1 a2 a3 a4 a5 a6 a7 : Nat → Int32} {e b m : Nat} (D : ds_D e b m a1 a2 a3)
    (hv : m = 1 ∨ (m = 0 ∧ b ≤ e)) (H : ∀ x b4 b5 b6 b7, post 1 (2, x, nI (ds_pn (e + b)), nI (ds_gn (e + b)), nI 3, a1, a2, a3, b4, b5, b6, b7)) :
    wpX_solve post (2, f1, f2, f3, f4, a1, a2, a3, a4, a5, a6, a7) := by
  have D' := D
  obtain ⟨_, _, hm, _, _, _, _, _, _, j0, j1⟩ := D'
  have c0 : ¬ a3 (0 : Int32).toNatClampNeg = 2 := by rw [sb_cl0, j0]; decide
  have c1 : ¬ a3 (1 : Int32).toNatClampNeg = 2 := by
    rw [ds_c2, j1]
    intro z
    have z' : nI m = nI 2 := z
    rw [nI_eq (by omega) (by omega)] at z'
    omega
  unfold wpX_solve
  dsimp only
  refine ⟨3, br_f (by decide) ⟨pk_in 0 10 (by decide), br_f c0 (nm_r (show (0 : Int32) ||| ((1 : Int32) <<< ((0 : Int32) &&& 31)) = 1 by decide) (nm_r (show (0 : Int32) + 1 = 1 by decide) ?_))⟩⟩
  refine br_f (by decide) ⟨pk_in 1 10 (by decide), br_f c1 (nm_r (show (1 : Int32) ||| ((1 : Int32) <<< ((1 : Int32) &&& 31)) = 3 by decide) (nm_r (show (1 : Int32) + 1 = 2 by decide) ?_))⟩
  refine br_t (by decide) (br_f (by decide) (ds_t3 D ?_))
  dsimp only
  exact ⟨2, ds_49p (n := 0) (i := 0) D (by decide) hv H⟩
theorem ds_sN {post : Int32 → St2 → Prop} {f1 f2 f3 f4 : Int32} {a1 a2 a3 a4 a5 a6 a7 : Nat → Int32} {e b m : Nat} (D : ds_D e b m a1 a2 a3)
    (hv : m = 2 ∨ (m = 0 ∧ e < b)) (H : ∀ x b4 b5 b6 b7, post 1 (2, x, nI b, nI 1, nI 1, a1, a2, a3, b4, b5, b6, b7)) :
    wpX_solve post (2, f1, f2, f3, f4, a1, a2, a3, a4, a5, a6, a7) := by
  have D' := D
  obtain ⟨_, _, hm, _, _, _, _, _, _, j0, j1⟩ := D'
  have c0 : ¬ a3 (0 : Int32).toNatClampNeg = 2 := by rw [sb_cl0, j0]; decide
  unfold wpX_solve
  dsimp only
  refine ⟨3, br_f (by decide) ⟨pk_in 0 10 (by decide), br_f c0 (nm_r (show (0 : Int32) ||| ((1 : Int32) <<< ((0 : Int32) &&& 31)) = 1 by decide) (nm_r (show (0 : Int32) + 1 = 1 by decide) ?_))⟩⟩
  by_cases m2 : m = 2
  · have c1 : a3 (1 : Int32).toNatClampNeg = 2 := by rw [ds_c2, j1, m2]; rfl
    refine br_f (by decide) ⟨pk_in 1 10 (by decide), br_t c1 (nm_r (show (1 : Int32) + 1 = 2 by decide) ?_)⟩
    refine br_t (by decide) (br_f (by decide) (ds_t1 D ?_))
    dsimp only
    exact ⟨2, ds_49n (n := 0) (i := 0) D (by decide) hv H⟩
  · have c1 : ¬ a3 (1 : Int32).toNatClampNeg = 2 := by
      rw [ds_c2, j1]
      intro z
      have z' : nI m = nI 2 := z
      rw [nI_eq (by omega) (by omega)] at z'
      exact m2 z'
    refine br_f (by decide) ⟨pk_in 1 10 (by decide), br_f c1 (nm_r (show (1 : Int32) ||| ((1 : Int32) <<< ((1 : Int32) &&& 31)) = 3 by decide) (nm_r (show (1 : Int32) + 1 = 2 by decide) ?_))⟩
    refine br_t (by decide) (br_f (by decide) (ds_t3 D ?_))
    dsimp only
    exact ⟨3, ds_49q (n := 0) (i := 0) D (by decide) (by omega) (by omega) H⟩
end
section
/-! the law, from its end to its head -/
theorem ds_245 {post : Int32 → St0 → Prop} {mc ms kc ks : Nat} {z0 z1 f1 f2 f3 f4 : Int32} {a1 a2 a3 a4 a5 a6 a7 : Nat → Int32} {e b m : Nat} (D : ds_D e b m a1 a2 a3) (hz : z1 = z0) (H : post 1 ()) :
    wL_lawOf_245 post mc ms (nI e) (nI b) z0 z1 kc ks 2 f1 f2 f3 f4 a1 a2 a3 a4 a5 a6 a7 := by
  unfold wL_lawOf_245
  refine br_t hz (ds_w3 D (br_t (nI_add e b).symm (ds_w1 D (br_t rfl (ds_w2 D (br_t rfl H))))))
theorem ds_213 {post : Int32 → St0 → Prop} {mc ms kc ks : Nat} {x8 T B S f1 f2 f3 f4 : Int32} {a1 a2 a3 a4 a5 a6 a7 : Nat → Int32} {e b m : Nat} (D : ds_D e b m a1 a2 a3)
    (hs : ∀ (ps : Int32 → St2 → Prop) (g1 g2 g3 g4 : Int32) (c4 c5 c6 c7 : Nat → Int32), (∀ x b4 b5 b6 b7, ps 1 (2, x, T, B, S, a1, a2, a3, b4, b5, b6, b7)) → wpX_solve ps (2, g1, g2, g3, g4, a1, a2, a3, c4, c5, c6, c7))
    (h8 : (x8 = 0 ∧ S = 1) ∨ (x8 = 1 ∧ S = 3)) (H : post 1 ()) :
    wL_lawOf_213 post mc ms (nI e) (nI b) x8 T B kc ks 2 f1 f2 f3 f4 a1 a2 a3 a4 a5 a6 a7 := by
  unfold wL_lawOf_213
  unfold wpX_densityTop
  dsimp only
  refine hs _ _ _ _ _ _ _ _ _ (fun x b4 b5 b6 b7 => ?_)
  dsimp only
  refine br_f (by decide) (br_t rfl ?_)
  unfold wpX_densityBottom
  dsimp only
  refine hs _ _ _ _ _ _ _ _ _ (fun x b4 b5 b6 b7 => ?_)
  dsimp only
  refine br_f (by decide) (br_t rfl ?_)
  unfold wpX_densest
  dsimp only
  refine hs _ _ _ _ _ _ _ _ _ (fun x b4 b5 b6 b7 => ?_)
  dsimp only
  refine br_f (by decide) ?_
  rcases h8 with ⟨e8, eS⟩ | ⟨e8, eS⟩
  · exact br_t e8 (ds_245 D eS H)
  · exact br_f (by rw [e8]; decide) (ds_245 D eS H)
theorem ds_160 {post : Int32 → St0 → Prop} {mc ms kc ks : Nat} {z0 f1 f2 f3 f4 : Int32} {a1 a2 a3 a4 a5 a6 a7 : Nat → Int32} {e b m : Nat} (D : ds_D e b m a1 a2 a3)
    (hz : (z0 = 1 ∧ (m = 1 ∨ (m = 0 ∧ b ≤ e))) ∨ (z0 = 0 ∧ (m = 2 ∨ (m = 0 ∧ e < b)))) (H : post 1 ()) :
    wL_lawOf_160 post mc ms (nI e) (nI b) z0 kc ks 2 f1 f2 f3 f4 a1 a2 a3 a4 a5 a6 a7 := by
  have he : e ≤ 20 := D.1
  have hb : b ≤ 20 := D.2.1
  rcases hz with ⟨z1, hv⟩ | ⟨z1, hv⟩
  · have key := ds_213 (post := post) (mc := mc) (ms := ms) (kc := kc) (ks := ks) (x8 := z0) (f1 := f1) (f2 := f2) (f3 := f3) (f4 := f4) (a4 := a4) (a5 := a5) (a6 := a6) (a7 := a7) D
      (fun ps g1 g2 g3 g4 c4 c5 c6 c7 h => ds_sP D hv h) (Or.inr ⟨z1, rfl⟩) H
    have n0 : ¬ z0 = 0 := by rw [z1]; decide
    unfold wL_lawOf_160
    refine br_f n0 ?_
    unfold wL_lawOf_177
    refine br_f n0 ?_
    unfold wL_lawOf_189
    refine ⟨by decide, ?_⟩
    have r := pk_rem (a := e + b) (d := 2) (by omega) (by omega) (by omega)
    have r' : (nI e + nI b) - (nI e + nI b) / 2 * 2 = nI ((e + b) % 2) := by rw [nI_add]; exact r
    have dv : (nI e + nI b) / 2 = nI ((e + b) / 2) := by rw [nI_add]; exact pk_div (a := e + b) (d := 2) (by omega) (by omega) (by omega)
    unfold ds_pn ds_gn at key
    by_cases hT : (e + b) % 2 = 0
    · rw [if_pos hT, if_pos hT] at key
      exact br_t (by rw [r', hT]; rfl) (br_t rfl ⟨by decide, nm_r dv key⟩)
    · rw [if_neg hT, if_neg hT] at key
      rw [nI_add]
      exact br_f (by rw [← nI_add, r']; exact nI_ne0 (by omega) (by omega)) key
  · have key := ds_213 (post := post) (mc := mc) (ms := ms) (kc := kc) (ks := ks) (x8 := z0) (f1 := f1) (f2 := f2) (f3 := f3) (f4 := f4) (a4 := a4) (a5 := a5) (a6 := a6) (a7 := a7) D
      (fun ps g1 g2 g3 g4 c4 c5 c6 c7 h => ds_sN D hv h) (Or.inl ⟨z1, rfl⟩) H
    unfold wL_lawOf_160
    refine br_t z1 ?_
    unfold wL_lawOf_177
    refine br_t z1 ?_
    unfold wL_lawOf_189
    exact ⟨by decide, br_c (fun _ => br_f (by decide) key) (fun _ => key)⟩
theorem ds_136 {post : Int32 → St0 → Prop} {mc ms kc ks : Nat} {x2 f1 f2 f3 f4 : Int32} {a1 a2 a3 a4 a5 a6 a7 : Nat → Int32} {e b m : Nat} (D : ds_D e b m a1 a2 a3)
    (h1 : x2 = 1 ↔ m = 1) (h2 : x2 = 2 ↔ m = 2) (H : post 1 ()) :
    wL_lawOf_136 post mc ms x2 (nI e) (nI b) kc ks 2 f1 f2 f3 f4 a1 a2 a3 a4 a5 a6 a7 := by
  have he : e ≤ 20 := D.1
  have hb : b ≤ 20 := D.2.1
  have hm : m ≤ 2 := D.2.2.1
  unfold wL_lawOf_136 wL_lawOf_155 wL_lawOf_159
  refine ek_if h1 (fun z => ds_160 D (Or.inl ⟨rfl, Or.inl z⟩) H) (fun z => ek_if h2 (fun w => ds_160 D (Or.inr ⟨rfl, Or.inl w⟩) H) (fun w => ?_))
  exact pk_lt e b (fun q => ds_160 D (Or.inr ⟨rfl, Or.inr ⟨by omega, q⟩⟩) H) (fun q => ds_160 D (Or.inl ⟨rfl, Or.inr ⟨by omega, q⟩⟩) H)
/-- a cell of the script against the weight that it sets -/
def ds_C (x fl : Int32) (w : Nat) : Prop := (fl = 0 ∧ (x < 0 ∨ 20 < x) ∧ w = 0) ∨ (fl = 1 ∧ x = nI w ∧ w ≤ 20)
theorem ds_109 {post : Int32 → St0 → Prop} {mc ms kc ks : Nat} {x0 x1 x2 x4 x5 z0 z1 f1 f2 f3 f4 : Int32} {a1 a2 a3 a4 a5 a6 a7 : Nat → Int32} {e b m : Nat} (D : ds_D e b m a1 a2 a3)
    (he : ds_C x0 x4 e) (hb : ds_C x1 x5 b) (hz : z1 = z0) (h1 : x2 = 1 ↔ m = 1) (h2 : x2 = 2 ↔ m = 2) (H : post 1 ()) :
    wL_lawOf_109 post mc ms x0 x1 x2 x4 x5 z0 z1 kc ks 2 f1 f2 f3 f4 a1 a2 a3 a4 a5 a6 a7 := by
  have step : wL_lawOf_124 post mc ms x1 x2 x5 (nI e) kc ks 2 f1 f2 f3 f4 a1 a2 a3 a4 a5 a6 a7 := by
    unfold wL_lawOf_124
    rcases hb with ⟨e5, _, eb⟩ | ⟨e5, eb, _⟩
    · subst eb
      exact br_t e5 (ds_136 D h1 h2 H)
    · subst eb
      exact br_f (by rw [e5]; decide) (ds_136 D h1 h2 H)
  unfold wL_lawOf_109
  rcases he with ⟨e4, _, ee⟩ | ⟨e4, ee, _⟩
  · subst ee
    exact br_t hz (br_t e4 step)
  · subst ee
    exact br_t hz (br_f (by rw [e4]; decide) step)
theorem ds_bad {post : Int32 → Prop} {f1 f2 f3 f4 : Int32} {a1 a2 a3 a4 a5 a6 a7 : Nat → Int32} {y : Nat} (hy : y < 2) (h : post 0) :
    wpX_bad post (2, f1, f2, f3, f4, a1, a2, a3, a4, a5, a6, a7) (nI y) := by
  unfold wpX_bad
  dsimp only
  exact pk_lt y 0 (fun z => absurd z (by omega)) (fun _ => pk_lt y 2 (fun _ => h) (fun z => absurd z (by omega)))
theorem ds_83 {post : Int32 → St0 → Prop} {mc ms kc ks : Nat} {x0 x1 x2 x4 x5 z0 z1 f1 f2 f3 f4 : Int32} {a1 a2 a3 a4 a5 a6 a7 : Nat → Int32} {e b : Nat} (D : ds_D e b 0 a1 a2 a3)
    (he : ds_C x0 x4 e) (hb : ds_C x1 x5 b) (hz : z1 = z0) (H : post 1 ()) :
    wL_lawOf_83 post mc ms x0 x1 x2 x4 x5 z0 z1 kc ks 2 f1 f2 f3 f4 a1 a2 a3 a4 a5 a6 a7 := by
  unfold wL_lawOf_83
  refine br_t hz ?_
  unfold wpX_mode
  dsimp only
  refine ds_bad (y := 1) (by decide) (br_t rfl ?_)
  by_cases n : x2 < 0
  · refine br_t n (br_t n ?_)
    unfold wL_lawOf_103
    exact ds_109 D he hb rfl ⟨fun z => absurd n (by rw [z]; decide), fun z => absurd z (by decide)⟩ ⟨fun z => absurd n (by rw [z]; decide), fun z => absurd z (by decide)⟩ H
  · by_cases k : x2 ≤ 2
    · obtain ⟨m, hm, e2⟩ := nI_of2 (M := 2) (n := 2) (by decide) n k
      subst e2
      obtain ⟨g1, g2, _, g3, g4, g5, g6, g7, g8, g9, g10⟩ := D
      have D' : ds_D e b m a1 a2 (upd a3 1 (nI m)) := ⟨g1, g2, hm, g3, g4, g5, g6, g7, g8, by rw [pk_un (by decide), g9], pk_us⟩
      have o : a3 (1 : Int32).toNatClampNeg = 0 := by rw [ds_c2, g10]; rfl
      have w : upd a3 (1 : Int32).toNatClampNeg (nI m) = upd a3 1 (nI m) := by rw [ds_c2]
      refine br_f n (br_t k ⟨pk_in 1 10 (by decide), nm_r o ⟨pk_in 1 10 (by decide), nm_r w ?_⟩⟩)
      refine br_f n (br_t k ?_)
      exact ds_109 D' he hb rfl (nI_eq (b := 1) (by omega) (by decide)) (nI_eq (b := 2) (by omega) (by decide)) H
    · refine br_f n (br_f k (br_f n (br_f k ?_)))
      unfold wL_lawOf_103
      exact ds_109 D he hb rfl ⟨fun z => absurd (show x2 ≤ 2 by rw [z]; decide) k, fun z => absurd z (by decide)⟩ ⟨fun z => absurd (show x2 ≤ 2 by rw [z]; decide) k, fun z => absurd z (by decide)⟩ H
theorem ds_61 {post : Int32 → St0 → Prop} {mc ms kc ks : Nat} {x0 x1 x2 x4 x5 z0 z1 f1 f2 f3 f4 : Int32} {a1 a2 a3 a4 a5 a6 a7 : Nat → Int32} {e b : Nat} (D : ds_D e 0 0 a1 a2 a3)
    (he : ds_C x0 x4 e) (hb : ds_C x1 x5 b) (hz : z1 = z0) (H : post 1 ()) :
    wL_lawOf_61 post mc ms x0 x1 x2 x4 x5 z0 z1 kc ks 2 f1 f2 f3 f4 a1 a2 a3 a4 a5 a6 a7 := by
  unfold wL_lawOf_61
  refine br_t hz ?_
  unfold wpX_bonus
  dsimp only
  refine ds_bad (y := 0) (by decide) (br_t rfl ?_)
  have hb' := hb
  rcases hb' with ⟨e5, n, eb⟩ | ⟨e5, eb, hb20⟩
  · subst eb
    have fin : wL_lawOf_83 post mc ms x0 x1 x2 x4 x5 (-2) (-2) kc ks 2 f1 f2 f3 f4 a1 a2 a3 a4 a5 a6 a7 := ds_83 D he hb rfl H
    by_cases k : x1 < 0
    · exact br_t k (br_t e5 fin)
    · have k2 : ¬ x1 ≤ 20 := Int32.not_le.mpr (n.resolve_left k)
      exact br_f k (br_f k2 (br_t e5 fin))
  · obtain ⟨g1, g2, g0, g3, g4, g5, g6, g7, g8, g9, g10⟩ := D
    have D' : ds_D e b 0 a1 (upd a2 0 x1) a3 := ⟨g1, hb20, g0, g3, g4, g5, g6, by rw [pk_us, eb], by rw [pk_un (by decide), g8], g9, g10⟩
    have o : a2 (0 : Int32).toNatClampNeg = 0 := by rw [sb_cl0, g7]; rfl
    have w : upd a2 (0 : Int32).toNatClampNeg x1 = upd a2 0 x1 := by rw [sb_cl0]
    have k1 : ¬ x1 < 0 := by rw [eb]; exact nI_pos (by omega)
    have k2 : x1 ≤ 20 := by rw [eb]; exact nI_le (b := 20) hb20 (by decide)
    refine br_f k1 (br_t k2 ⟨pk_in 0 10 (by decide), nm_r o ⟨pk_in 0 10 (by decide), nm_r w ?_⟩⟩)
    exact br_f (by rw [e5]; decide) (ds_83 D' he hb rfl H)
theorem ds_41 {post : Int32 → St0 → Prop} {mc ms kc ks : Nat} {x0 x1 x2 x4 x5 f1 f2 f3 f4 : Int32} {e b : Nat}
    (he : ds_C x0 x4 e) (hb : ds_C x1 x5 b) (H : post 1 ()) :
    wL_lawOf_41 post mc ms x0 x1 x2 x4 x5 kc ks 2 f1 f2 f3 f4 (fun _ => 0) (fun _ => 0) (fun _ => 0) (fun _ => 0) (fun _ => 0) (fun _ => 0) (fun _ => 0) := by
  unfold wL_lawOf_41
  unfold wpX_edge
  dsimp only
  refine ds_bad (y := 1) (by decide) (br_t rfl (ds_bad (y := 0) (by decide) (br_t rfl (br_f (by decide) ?_))))
  have he' := he
  rcases he' with ⟨e4, n, ee⟩ | ⟨e4, ee, he20⟩
  · subst ee
    have D : ds_D 0 0 0 (fun _ => (0 : Int32)) (fun _ => 0) (fun _ => 0) := ⟨by decide, by decide, by decide, rfl, rfl, rfl, rfl, rfl, rfl, rfl, rfl⟩
    have fin : wL_lawOf_61 post mc ms x0 x1 x2 x4 x5 (-2) (-2) kc ks 2 f1 f2 f3 f4 (fun _ => 0) (fun _ => 0) (fun _ => 0) (fun _ => 0) (fun _ => 0) (fun _ => 0) (fun _ => 0) := ds_61 D he hb rfl H
    by_cases k : x0 < 0
    · exact br_t k (br_t e4 fin)
    · have k2 : ¬ x0 ≤ 20 := Int32.not_le.mpr (n.resolve_left k)
      exact br_f k (br_f k2 (br_t e4 fin))
  · have D : ds_D e 0 0 (upd (upd (fun _ => (0 : Int32)) 10 x0) 1 x0) (fun _ => 0) (fun _ => 0) := by
      refine ⟨he20, by decide, by decide, ?_, ?_, ?_, ?_, rfl, rfl, rfl, rfl⟩
      · rw [pk_un (by decide), pk_un (by decide)]; rfl
      · rw [pk_us, ee]
      · rw [pk_un (by decide), pk_us, ee]
      · rw [pk_un (by decide), pk_un (by decide)]; rfl
    have c10 : ((1 : Int32) * 10 + 0).toNatClampNeg = 10 := by decide
    have w1 : upd (fun _ => (0 : Int32)) ((1 : Int32) * 10 + 0).toNatClampNeg x0 = upd (fun _ => 0) 10 x0 := by rw [c10]
    have w2 : upd (upd (fun _ => (0 : Int32)) 10 x0) ((0 : Int32) * 10 + 1).toNatClampNeg x0 = upd (upd (fun _ => 0) 10 x0) 1 x0 := by rw [ds_c1]
    have k1 : ¬ x0 < 0 := by rw [ee]; exact nI_pos (by omega)
    have k2 : x0 ≤ 20 := by rw [ee]; exact nI_le (b := 20) he20 (by decide)
    refine br_f k1 (br_t k2 ⟨pk_in 10 100 (by decide) (by decide), nm_e ⟨pk_in 10 100 (by decide) (by decide), nm_r w1 ⟨pk_in 1 100 (by decide) (by decide), nm_r w2 ?_⟩⟩⟩)
    exact br_f (by rw [e4]; decide) (ds_61 D he hb rfl H)
theorem ds_24 {post : Int32 → St0 → Prop} {mc ms kc ks : Nat} {x0 x1 x2 x4 f1 f2 f3 f4 : Int32} {e : Nat}
    (he : ds_C x0 x4 e) (H : post 1 ()) :
    wL_lawOf_24 post mc ms x0 x1 x2 x4 kc ks 2 f1 f2 f3 f4 (fun _ => 0) (fun _ => 0) (fun _ => 0) (fun _ => 0) (fun _ => 0) (fun _ => 0) (fun _ => 0) := by
  unfold wL_lawOf_24
  by_cases n : x1 < 0
  · refine br_t n ?_
    unfold wL_lawOf_40
    exact ds_41 (b := 0) he (Or.inl ⟨rfl, Or.inl n, rfl⟩) H
  · by_cases k : 20 < x1
    · refine br_f n (br_t k ?_)
      unfold wL_lawOf_40
      exact ds_41 (b := 0) he (Or.inl ⟨rfl, Or.inr k, rfl⟩) H
    · obtain ⟨b, hb, e2⟩ := nI_of2 (M := 20) (n := 20) (by decide) n (Int32.not_lt.mp k)
      exact br_f n (br_f k (ds_41 (b := b) he (Or.inr ⟨rfl, e2, hb⟩) H))
theorem ds_law {post : Int32 → St0 → Prop} {x0 x1 x2 : Int32} (H : post 1 ()) : wpL_lawOf post 168 2688 () x0 x1 x2 := by
  unfold wpL_lawOf
  refine ⟨by decide, by decide, 7, 300, by decide, by decide, ?_⟩
  unfold wpX_init
  dsimp only
  refine ⟨by decide, by decide, by decide, by decide, by decide, by decide, by decide, by decide, by decide, by decide, by decide, by decide, by decide, by decide, br_t (by decide) ?_⟩
  unfold wX_init_70
  refine br_t (by decide) ?_
  dsimp only
  by_cases n : x0 < 0
  · refine br_t n ?_
    unfold wL_lawOf_23
    exact ds_24 (e := 0) (Or.inl ⟨rfl, Or.inl n, rfl⟩) H
  · by_cases k : 20 < x0
    · refine br_f n (br_t k ?_)
      unfold wL_lawOf_23
      exact ds_24 (e := 0) (Or.inl ⟨rfl, Or.inr k, rfl⟩) H
    · obtain ⟨e, he, e2⟩ := nI_of2 (M := 20) (n := 20) (by decide) n (Int32.not_lt.mp k)
      exact br_f n (br_f k (ds_24 (e := e) (Or.inr ⟨rfl, e2, he⟩) H))
theorem ds_cell {post : Int32 → Prop} {L : Nat} {xs : Nat → Int32} (k : Nat) (hk : k < 3) (hL : L ≤ 3) (H : ∀ r, post r) : wpL_cellAt post L xs () (nI k) := by
  unfold wpL_cellAt
  exact pk_le L k (fun _ => H 0) (fun z => ⟨pk_in k L z, H _⟩)
end
section
theorem i_vc (xs : Nat → Int32) (L : Nat) (hL : L ≤ 3) : wpL_law (fun r => r = 1) L xs := by
  unfold wpL_law
  refine ds_cell 0 (by decide) hL (fun r1 => ?_)
  refine ds_cell 1 (by decide) hL (fun r2 => ?_)
  refine ds_cell 2 (by decide) hL (fun r3 => ?_)
  exact ⟨168, 2688, by decide, by decide, ds_law rfl⟩
end
