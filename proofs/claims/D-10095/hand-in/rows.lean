section
/-! part 1: ints as naturals, their bits -/
theorem rn_sm : ∀ k, k < 32 → ((nI k &&& 31).toBitVec.smod 32).toNat = k := by decide +kernel
theorem rn_and (a b : Nat) : nI a &&& nI b = nI (a &&& b) := by
  apply Int32.toBitVec_inj.1
  show BitVec.ofNat 32 a &&& BitVec.ofNat 32 b = BitVec.ofNat 32 (a &&& b)
  apply BitVec.eq_of_getLsbD_eq
  intro i hi
  simp [hi]
theorem rn_or (a b : Nat) : nI a ||| nI b = nI (a ||| b) := by
  apply Int32.toBitVec_inj.1
  show BitVec.ofNat 32 a ||| BitVec.ofNat 32 b = BitVec.ofNat 32 (a ||| b)
  apply BitVec.eq_of_getLsbD_eq
  intro i hi
  simp [hi]
theorem rn_xor (a b : Nat) : nI a ^^^ nI b = nI (a ^^^ b) := by
  apply Int32.toBitVec_inj.1
  show BitVec.ofNat 32 a ^^^ BitVec.ofNat 32 b = BitVec.ofNat 32 (a ^^^ b)
  apply BitVec.eq_of_getLsbD_eq
  intro i hi
  simp [hi]
theorem rn_and1 (a : Nat) : nI a &&& 1 = nI (a % 2) := by
  show nI a &&& nI 1 = _
  rw [rn_and, Nat.and_one_is_mod]
theorem rn_shr {t k : Nat} (ht : t < 2 ^ 31) (hk : k < 32) : nI t >>> (nI k &&& 31) = nI (t / 2 ^ k) := pk_shrN ht _ k (rn_sm k hk)
theorem rn_shl {t k : Nat} (hk : k < 32) (h : t * 2 ^ k < 2 ^ 32) : nI t <<< (nI k &&& 31) = nI (t * 2 ^ k) := pk_shlN _ k (rn_sm k hk) h
theorem rn_shl1 {k : Nat} (hk : k < 32) : (1 : Int32) <<< (nI k &&& 31) = nI (2 ^ k) := by
  have h := rn_shl (t := 1) (k := k) hk (by rw [Nat.one_mul]; exact Nat.pow_lt_pow_right (by omega) hk)
  rw [Nat.one_mul] at h
  exact h
theorem rn_bit {t k : Nat} (ht : t < 2 ^ 31) (hk : k < 32) : (nI t >>> (nI k &&& 31)) &&& 1 = nI ((t.testBit k).toNat) := by
  rw [rn_shr ht hk, rn_and1, Nat.toNat_testBit]
theorem rn_has {post : Int32 → Prop} {x y : Int32} (t k : Nat) (ht : t < 2 ^ 31) (hk : k < 32) (h1 : t.testBit k = true → post 1) (h0 : t.testBit k = false → post 0) (hx : x = nI t := by rfl) (hy : y = nI k := by rfl) : wpX_has post () x y := by
  subst hx
  subst hy
  unfold wpX_has
  rw [rn_bit ht hk]
  cases h : t.testBit k
  · exact br_f (by decide) (h0 h)
  · exact br_t (by decide) (h1 h)
theorem rn_hs {A B : Prop} {x y : Int32} (t k : Nat) (ht : t < 2 ^ 31) (hk : k < 32) (h1 : t.testBit k = true → B) (h0 : t.testBit k = false → A) (hx : x = nI t := by rfl) (hy : y = nI k := by rfl) : wpX_has (fun r => (r = 0 → A) ∧ (¬ r = 0 → B)) () x y :=
  rn_has t k ht hk (fun h => br_f (by decide) (h1 h)) (fun h => br_t rfl (h0 h)) hx hy
theorem rn_ne1 {c : Nat} (h : c < 2 ^ 31) : ¬ nI c = -1 := by
  intro e
  have h1 : (nI c).toInt = (-1 : Int32).toInt := by rw [e]
  rw [nI_toInt h] at h1
  have h2 : (-1 : Int32).toInt = -1 := by decide
  rw [h2] at h1
  omega
theorem rn_cl {c : Nat} (h : c < 2 ^ 31) : (nI c).toNatClampNeg = c := nI_clamp h
theorem rn_bnot {b : Bool} (h : ¬ b = true) : b = false := by cases b <;> simp_all
theorem rn_bool (b : Bool) : b.toNat < 2 := by cases b <;> decide
/-- a triple of values as a number -/
def rn_ix (p q r : Bool) : Nat := 4 * p.toNat + 2 * q.toNat + r.toNat
theorem rn_ix_lt : ∀ p q r : Bool, rn_ix p q r < 8 := by decide
theorem rn_ix_d : ∀ t, t < 8 → t = rn_ix (decide (t / 4 = 1)) (decide (t / 2 % 2 = 1)) (decide (t % 2 = 1)) := by decide
theorem rn_ix_of {t : Nat} (h : t < 8) : ∃ p q r, t = rn_ix p q r := ⟨_, _, _, rn_ix_d t h⟩
theorem rn_ix_a : ∀ p q r : Bool, rn_ix p q r / 4 = p.toNat ∧ rn_ix p q r / 2 % 2 = q.toNat ∧ rn_ix p q r % 2 = r.toNat := by decide
theorem rn_ix_and : ∀ p q r p' q' r' : Bool, rn_ix p q r &&& rn_ix p' q' r' = rn_ix (p && p') (q && q') (r && r') := by decide
theorem rn_ix_or : ∀ p q r p' q' r' : Bool, rn_ix p q r ||| rn_ix p' q' r' = rn_ix (p || p') (q || q') (r || r') := by decide
theorem rn_ix_bit : ∀ p q r : Bool, (rn_ix p q r).testBit 2 = p ∧ (rn_ix p q r).testBit 1 = q ∧ (rn_ix p q r).testBit 0 = r := by decide
/-- counting -/
noncomputable def rn_cnt (P : Nat → Prop) : Nat → Nat
  | 0 => 0
  | k + 1 => rn_cnt P k + @ite Nat (P k) (Classical.propDecidable _) 1 0
theorem rn_cnt_t {P : Nat → Prop} {k : Nat} (h : P k) : rn_cnt P (k + 1) = rn_cnt P k + 1 := by
  show rn_cnt P k + _ = _
  rw [if_pos h]
theorem rn_cnt_f {P : Nat → Prop} {k : Nat} (h : ¬ P k) : rn_cnt P (k + 1) = rn_cnt P k := by
  show rn_cnt P k + _ = _
  rw [if_neg h]
  rfl
theorem rn_cnt_le (P : Nat → Prop) (k : Nat) : rn_cnt P k ≤ k := by
  induction k with
  | zero => exact Nat.le_refl 0
  | succ k ih =>
    by_cases h : P k
    · rw [rn_cnt_t h]; omega
    · rw [rn_cnt_f h]; omega
theorem rn_cnt_c {P Q : Nat → Prop} {k : Nat} (h : ∀ j, j < k → (P j ↔ Q j)) : rn_cnt P k = rn_cnt Q k := by
  induction k with
  | zero => rfl
  | succ k ih =>
    have ih' := ih (fun j hj => h j (by omega))
    by_cases hp : P k
    · rw [rn_cnt_t hp, rn_cnt_t ((h k (by omega)).mp hp), ih']
    · rw [rn_cnt_f hp, rn_cnt_f (fun q => hp ((h k (by omega)).mpr q)), ih']
theorem rn_cnt_0 {P : Nat → Prop} {k : Nat} (h : ∀ j, j < k → ¬ P j) : rn_cnt P k = 0 := by
  induction k with
  | zero => rfl
  | succ k ih => rw [rn_cnt_f (h k (by omega)), ih (fun j hj => h j (by omega))]
theorem rn_cnt_pos {P : Nat → Prop} {k j : Nat} (hj : j < k) (h : P j) : 0 < rn_cnt P k := by
  induction k with
  | zero => omega
  | succ k ih =>
    by_cases e : j = k
    · subst e
      rw [rn_cnt_t h]; omega
    · have := ih (by omega)
      by_cases hp : P k
      · rw [rn_cnt_t hp]; omega
      · rw [rn_cnt_f hp]; omega
theorem rn_cnt_ex {P : Nat → Prop} {k : Nat} (h : 0 < rn_cnt P k) : ∃ j, j < k ∧ P j := by
  apply Classical.byContradiction
  intro g
  rw [rn_cnt_0 (fun j hj hp => g ⟨j, hj, hp⟩)] at h
  omega
theorem rn_cnt_add {P Q R : Nat → Prop} {k : Nat} (h : ∀ j, j < k → (P j ↔ Q j ∨ R j)) (hd : ∀ j, j < k → ¬ (Q j ∧ R j)) : rn_cnt P k = rn_cnt Q k + rn_cnt R k := by
  induction k with
  | zero => rfl
  | succ k ih =>
    have ih' := ih (fun j hj => h j (by omega)) (fun j hj => hd j (by omega))
    have hk := h k (by omega)
    have dk := hd k (by omega)
    by_cases hq : Q k
    · have hr : ¬ R k := fun r => dk ⟨hq, r⟩
      rw [rn_cnt_t (hk.mpr (Or.inl hq)), rn_cnt_t hq, rn_cnt_f hr]; omega
    · by_cases hr : R k
      · rw [rn_cnt_t (hk.mpr (Or.inr hr)), rn_cnt_f hq, rn_cnt_t hr]; omega
      · have hp : ¬ P k := fun p => (hk.mp p).elim hq hr
        rw [rn_cnt_f hp, rn_cnt_f hq, rn_cnt_f hr]; omega
theorem rn_cnt_1 {P : Nat → Prop} {k j : Nat} (hj : j < k) (h : P j) (hu : ∀ i, i < k → P i → i = j) : rn_cnt P k = 1 := by
  induction k with
  | zero => omega
  | succ k ih =>
    by_cases e : j = k
    · subst e
      rw [rn_cnt_t h, rn_cnt_0 (fun i hi hp => by have := hu i (by omega) hp; omega)]
    · rw [rn_cnt_f (fun hp => e (hu k (by omega) hp).symm)]
      exact ih (by omega) (fun i hi => hu i (by omega))
theorem rn_cnt_2 (P : Nat → Prop) (k : Nat) : rn_cnt P (2 * k) = rn_cnt (fun j => P (2 * j)) k + rn_cnt (fun j => P (2 * j + 1)) k := by
  induction k with
  | zero => rfl
  | succ k ih =>
    rw [show 2 * (k + 1) = 2 * k + 1 + 1 by omega]
    by_cases h1 : P (2 * k + 1)
    · rw [rn_cnt_t h1, rn_cnt_t (P := fun j => P (2 * j + 1)) h1]
      by_cases h0 : P (2 * k)
      · rw [rn_cnt_t h0, rn_cnt_t (P := fun j => P (2 * j)) h0]; omega
      · rw [rn_cnt_f h0, rn_cnt_f (P := fun j => P (2 * j)) h0]; omega
    · rw [rn_cnt_f h1, rn_cnt_f (P := fun j => P (2 * j + 1)) h1]
      by_cases h0 : P (2 * k)
      · rw [rn_cnt_t h0, rn_cnt_t (P := fun j => P (2 * j)) h0]; omega
      · rw [rn_cnt_f h0, rn_cnt_f (P := fun j => P (2 * j)) h0]; omega
/-- every choice of values is a number's bits -/
theorem rn_num (f : Nat → Bool) (n : Nat) : ∃ k, k < 2 ^ n ∧ ∀ v, v < n → k.testBit v = f v := by
  induction n with
  | zero => exact ⟨0, by decide, fun v h => absurd h (by omega)⟩
  | succ n ih =>
    obtain ⟨k, hk, h⟩ := ih
    cases hf : f n
    · refine ⟨k, by rw [Nat.pow_succ]; omega, fun v hv => ?_⟩
      by_cases e : v = n
      · rw [e, hf]; exact Nat.testBit_lt_two_pow hk
      · exact h v (by omega)
    · refine ⟨2 ^ n + k, by rw [Nat.pow_succ]; omega, fun v hv => ?_⟩
      by_cases e : v = n
      · rw [e, hf, Nat.testBit_two_pow_add_eq, Nat.testBit_lt_two_pow hk]; rfl
      · rw [Nat.testBit_two_pow_add_gt (by omega)]; exact h v (by omega)
theorem rn_numeq {n j k : Nat} (hj : j < 2 ^ n) (hk : k < 2 ^ n) (h : ∀ v, v < n → j.testBit v = k.testBit v) : j = k := by
  apply Nat.eq_of_testBit_eq
  intro i
  rcases Nat.lt_or_ge i n with hi | hi
  · exact h i hi
  · rw [Nat.testBit_lt_two_pow (Nat.lt_of_lt_of_le hj (Nat.pow_le_pow_right (by omega) hi)), Nat.testBit_lt_two_pow (Nat.lt_of_lt_of_le hk (Nat.pow_le_pow_right (by omega) hi))]
end
section
/-! part 2: the net's meaning; filtering, meet, join, single domains -/
def rn_sat (n m : Nat) (C X Y Z D : Nat → Nat) (f : Nat → Bool) : Prop :=
  (∀ v, v < n → (D v).testBit (f v).toNat = true) ∧ (∀ c, c < m → (C c).testBit (rn_ix (f (X c)) (f (Y c)) (f (Z c))) = true)
def rn_fit (x y z T : Nat) (D : Nat → Nat) (p q r : Bool) : Prop :=
  (x = y → p = q) ∧ (x = z → p = r) ∧ (y = z → q = r) ∧ (D x).testBit p.toNat = true ∧ (D y).testBit q.toNat = true ∧ (D z).testBit r.toNat = true ∧ T.testBit (rn_ix p q r) = true
def rn_gac (x y z T : Nat) (D : Nat → Nat) : Prop :=
  (∃ p q r, rn_fit x y z T D p q r) ∧ (∀ b : Bool, (D x).testBit b.toNat = true → ∃ q r, rn_fit x y z T D b q r) ∧ (∀ b : Bool, (D y).testBit b.toNat = true → ∃ p r, rn_fit x y z T D p b r) ∧ (∀ b : Bool, (D z).testBit b.toNat = true → ∃ p q, rn_fit x y z T D p q b)
def rn_step (n x y z T : Nat) (D D' : Nat → Nat) : Prop :=
  ∀ v, v < n → ∀ b : Bool, ((D' v).testBit b.toNat = true ↔ (D v).testBit b.toNat = true ∧ (v = x → ∃ q r, rn_fit x y z T D b q r) ∧ (v = y → ∃ p r, rn_fit x y z T D p b r) ∧ (v = z → ∃ p q, rn_fit x y z T D p q b))
def rn_ne (n : Nat) (D : Nat → Nat) : Prop := ∀ v, v < n → ∃ b : Bool, (D v).testBit b.toNat = true
/-- the variables of the constraints are variables -/
def rn_vars (n m : Nat) (X Y Z : Nat → Nat) : Prop := ∀ c, c < m → X c < n ∧ Y c < n ∧ Z c < n
def rn_mc (T : Nat) : Prop := ∀ s, s < 8 → ∀ t, t < 8 → T.testBit s = true → T.testBit t = true → T.testBit (s &&& t) = true
def rn_jc (T : Nat) : Prop := ∀ s, s < 8 → ∀ t, t < 8 → T.testBit s = true → T.testBit t = true → T.testBit (s ||| t) = true
section
variable {n m : Nat} {C X Y Z D D' : Nat → Nat} {f g : Nat → Bool}
theorem rn_sat_fit (h : rn_sat n m C X Y Z D f) (hv : rn_vars n m X Y Z) {c : Nat} (hc : c < m) : rn_fit (X c) (Y c) (Z c) (C c) D (f (X c)) (f (Y c)) (f (Z c)) :=
  ⟨fun e => by rw [e], fun e => by rw [e], fun e => by rw [e], h.1 _ (hv c hc).1, h.1 _ (hv c hc).2.1, h.1 _ (hv c hc).2.2, h.2 c hc⟩
theorem rn_sat_step (h : rn_sat n m C X Y Z D f) (hv : rn_vars n m X Y Z) {c : Nat} (hc : c < m) (hs : rn_step n (X c) (Y c) (Z c) (C c) D D') : rn_sat n m C X Y Z D' f := by
  have F := rn_sat_fit h hv hc
  refine ⟨fun v hv' => (hs v hv' (f v)).mpr ⟨h.1 v hv', ?_, ?_, ?_⟩, h.2⟩
  · intro e
    subst e
    exact ⟨_, _, F⟩
  · intro e
    subst e
    exact ⟨_, _, F⟩
  · intro e
    subst e
    exact ⟨_, _, F⟩
theorem rn_sub_step {x y z T : Nat} (hs : rn_step n x y z T D D') : ∀ v, v < n → ∀ b : Bool, (D' v).testBit b.toNat = true → (D v).testBit b.toNat = true :=
  fun v hv b h => ((hs v hv b).mp h).1
theorem rn_sat_sub (hs : ∀ v, v < n → ∀ b : Bool, (D' v).testBit b.toNat = true → (D v).testBit b.toNat = true) (h : rn_sat n m C X Y Z D' f) : rn_sat n m C X Y Z D f :=
  ⟨fun v hv => hs v hv (f v) (h.1 v hv), h.2⟩
theorem rn_step_ne {x y z T : Nat} (hs : rn_step n x y z T D D') (hn : rn_ne n D) (hf : ∃ p q r, rn_fit x y z T D p q r) : rn_ne n D' := by
  obtain ⟨p, q, r, F⟩ := hf
  obtain ⟨f1, f2, f3, f4, f5, f6, f7⟩ := F
  have F : rn_fit x y z T D p q r := ⟨f1, f2, f3, f4, f5, f6, f7⟩
  intro v hv
  by_cases ex : v = x
  · subst ex
    refine ⟨p, (hs v hv p).mpr ⟨f4, fun _ => ⟨q, r, F⟩, fun e => ⟨p, r, ?_⟩, fun e => ⟨p, q, ?_⟩⟩⟩
    · have := f1 e
      subst this
      exact F
    · have := f2 e
      subst this
      exact F
  · by_cases ey : v = y
    · subst ey
      refine ⟨q, (hs v hv q).mpr ⟨f5, fun e => absurd e ex, fun e => ⟨p, r, F⟩, fun e => ⟨p, q, ?_⟩⟩⟩
      have := f3 e
      subst this
      exact F
    · by_cases ez : v = z
      · subst ez
        exact ⟨r, (hs v hv r).mpr ⟨f6, fun e => absurd e ex, fun e => absurd e ey, fun e => ⟨p, q, F⟩⟩⟩
      · obtain ⟨b, hb⟩ := hn v hv
        exact ⟨b, (hs v hv b).mpr ⟨hb, fun e => absurd e ex, fun e => absurd e ey, fun e => absurd e ez⟩⟩
theorem rn_step_gac {x y z T : Nat} (hx : x < n) (hy : y < n) (hz : z < n) (hs : rn_step n x y z T D D') (hf : ∃ p q r, rn_fit x y z T D p q r) (he : ∀ v, v < n → D' v = D v) : rn_gac x y z T D :=
  ⟨hf, fun b hb => ((hs x hx b).mp (by rw [he x hx]; exact hb)).2.1 rfl, fun b hb => ((hs y hy b).mp (by rw [he y hy]; exact hb)).2.2.1 rfl, fun b hb => ((hs z hz b).mp (by rw [he z hz]; exact hb)).2.2.2 rfl⟩
theorem rn_fit_c {x y z T : Nat} (hx : x < n) (hy : y < n) (hz : z < n) (he : ∀ v, v < n → D' v = D v) {p q r : Bool} (h : rn_fit x y z T D p q r) : rn_fit x y z T D' p q r := by
  unfold rn_fit at h ⊢
  rw [he x hx, he y hy, he z hz]
  exact h
theorem rn_gac_c {x y z T : Nat} (hx : x < n) (hy : y < n) (hz : z < n) (he : ∀ v, v < n → D' v = D v) (h : rn_gac x y z T D) : rn_gac x y z T D' := by
  obtain ⟨⟨p, q, r, h0⟩, h1, h2, h3⟩ := h
  refine ⟨⟨p, q, r, rn_fit_c hx hy hz he h0⟩, fun b hb => ?_, fun b hb => ?_, fun b hb => ?_⟩
  · rw [he x hx] at hb
    obtain ⟨q, r, h⟩ := h1 b hb
    exact ⟨q, r, rn_fit_c hx hy hz he h⟩
  · rw [he y hy] at hb
    obtain ⟨q, r, h⟩ := h2 b hb
    exact ⟨q, r, rn_fit_c hx hy hz he h⟩
  · rw [he z hz] at hb
    obtain ⟨q, r, h⟩ := h3 b hb
    exact ⟨q, r, rn_fit_c hx hy hz he h⟩
theorem rn_min {d : Nat} {p : Bool} (h : d.testBit p.toNat = true) : ((!d.testBit 0) && p) = !d.testBit 0 := by
  cases p
  · have h' : d.testBit 0 = true := h
    rw [h']; rfl
  · rw [Bool.and_true]
theorem rn_max {d : Nat} {p : Bool} (h : d.testBit p.toNat = true) : (d.testBit 1 || p) = d.testBit 1 := by
  cases p
  · rw [Bool.or_false]
  · have h' : d.testBit 1 = true := h
    rw [h']; rfl
theorem rn_meet (hv : rn_vars n m X Y Z) (hn : rn_ne n D) (hg : ∀ c, c < m → rn_gac (X c) (Y c) (Z c) (C c) D) (hm : ∀ c, c < m → rn_mc (C c)) : ∃ f, rn_sat n m C X Y Z D f := by
  have hd : ∀ v, v < n → (D v).testBit (!(D v).testBit 0).toNat = true := by
    intro v hv'
    cases h : (D v).testBit 0
    · obtain ⟨b, hb⟩ := hn v hv'
      cases b
      · have hb' : (D v).testBit 0 = true := hb
        rw [h] at hb'
        exact absurd hb' (by decide)
      · exact hb
    · exact h
  refine ⟨fun v => !(D v).testBit 0, hd, fun c hc => ?_⟩
  obtain ⟨vx, vy, vz⟩ := hv c hc
  obtain ⟨_, g1, g2, g3⟩ := hg c hc
  obtain ⟨q1, r1, F1⟩ := g1 _ (hd _ vx)
  obtain ⟨p2, r2, F2⟩ := g2 _ (hd _ vy)
  obtain ⟨p3, q3, F3⟩ := g3 _ (hd _ vz)
  have M1 := hm c hc _ (rn_ix_lt _ _ _) _ (rn_ix_lt _ _ _) F1.2.2.2.2.2.2 F2.2.2.2.2.2.2
  rw [rn_ix_and] at M1
  have M2 := hm c hc _ (rn_ix_lt _ _ _) _ (rn_ix_lt _ _ _) M1 F3.2.2.2.2.2.2
  rw [rn_ix_and] at M2
  have ex : (((!(D (X c)).testBit 0) && p2) && p3) = !(D (X c)).testBit 0 := by
    rw [rn_min F2.2.2.2.1, rn_min F3.2.2.2.1]
  have ey : ((q1 && (!(D (Y c)).testBit 0)) && q3) = !(D (Y c)).testBit 0 := by
    rw [Bool.and_comm q1, rn_min F1.2.2.2.2.1, rn_min F3.2.2.2.2.1]
  have ez : ((r1 && r2) && (!(D (Z c)).testBit 0)) = !(D (Z c)).testBit 0 := by
    rw [Bool.and_comm (r1 && r2), ← Bool.and_assoc, rn_min F1.2.2.2.2.2.1, rn_min F2.2.2.2.2.2.1]
  rw [ex, ey, ez] at M2
  exact M2
theorem rn_join (hv : rn_vars n m X Y Z) (hn : rn_ne n D) (hg : ∀ c, c < m → rn_gac (X c) (Y c) (Z c) (C c) D) (hm : ∀ c, c < m → rn_jc (C c)) : ∃ f, rn_sat n m C X Y Z D f := by
  have hd : ∀ v, v < n → (D v).testBit ((D v).testBit 1).toNat = true := by
    intro v hv'
    cases h : (D v).testBit 1
    · obtain ⟨b, hb⟩ := hn v hv'
      cases b
      · exact hb
      · have hb' : (D v).testBit 1 = true := hb
        rw [h] at hb'
        exact absurd hb' (by decide)
    · exact h
  refine ⟨fun v => (D v).testBit 1, hd, fun c hc => ?_⟩
  obtain ⟨vx, vy, vz⟩ := hv c hc
  obtain ⟨_, g1, g2, g3⟩ := hg c hc
  obtain ⟨q1, r1, F1⟩ := g1 _ (hd _ vx)
  obtain ⟨p2, r2, F2⟩ := g2 _ (hd _ vy)
  obtain ⟨p3, q3, F3⟩ := g3 _ (hd _ vz)
  have M1 := hm c hc _ (rn_ix_lt _ _ _) _ (rn_ix_lt _ _ _) F1.2.2.2.2.2.2 F2.2.2.2.2.2.2
  rw [rn_ix_or] at M1
  have M2 := hm c hc _ (rn_ix_lt _ _ _) _ (rn_ix_lt _ _ _) M1 F3.2.2.2.2.2.2
  rw [rn_ix_or] at M2
  have ex : (((D (X c)).testBit 1 || p2) || p3) = (D (X c)).testBit 1 := by
    rw [rn_max F2.2.2.2.1, rn_max F3.2.2.2.1]
  have ey : ((q1 || (D (Y c)).testBit 1) || q3) = (D (Y c)).testBit 1 := by
    rw [Bool.or_comm q1, rn_max F1.2.2.2.2.1, rn_max F3.2.2.2.2.1]
  have ez : ((r1 || r2) || (D (Z c)).testBit 1) = (D (Z c)).testBit 1 := by
    rw [Bool.or_comm (r1 || r2), ← Bool.or_assoc, rn_max F1.2.2.2.2.2.1, rn_max F2.2.2.2.2.2.1]
  rw [ex, ey, ez] at M2
  exact M2
theorem rn_one : ∀ d, d < 4 → d ≠ 3 → ∀ p : Bool, d.testBit p.toNat = true → p = d.testBit 1 := by decide
/-- all domains single: one solution -/
theorem rn_single (hv : rn_vars n m X Y Z) (h4 : ∀ v, v < n → D v < 4) (h3 : ∀ v, v < n → D v ≠ 3) (hn : rn_ne n D) (hg : ∀ c, c < m → rn_gac (X c) (Y c) (Z c) (C c) D) : rn_sat n m C X Y Z D (fun v => (D v).testBit 1) := by
  refine ⟨fun v hv' => ?_, fun c hc => ?_⟩
  · obtain ⟨b, hb⟩ := hn v hv'
    show (D v).testBit ((D v).testBit 1).toNat = true
    rw [← rn_one _ (h4 v hv') (h3 v hv') b hb]
    exact hb
  · obtain ⟨vx, vy, vz⟩ := hv c hc
    obtain ⟨⟨p, q, r, F⟩, _⟩ := hg c hc
    obtain ⟨_, _, _, f4, f5, f6, f7⟩ := F
    rw [rn_one _ (h4 _ vx) (h3 _ vx) p f4, rn_one _ (h4 _ vy) (h3 _ vy) q f5, rn_one _ (h4 _ vz) (h3 _ vz) r f6] at f7
    exact f7
theorem rn_sole (h4 : ∀ v, v < n → D v < 4) (h3 : ∀ v, v < n → D v ≠ 3) (h : rn_sat n m C X Y Z D f) : ∀ v, v < n → f v = (D v).testBit 1 :=
  fun v hv => rn_one _ (h4 v hv) (h3 v hv) (f v) (h.1 v hv)
theorem rn_sat_c (hv : rn_vars n m X Y Z) (he : ∀ v, v < n → f v = g v) (h : rn_sat n m C X Y Z D f) : rn_sat n m C X Y Z D g := by
  refine ⟨fun v hv' => ?_, fun c hc => ?_⟩
  · rw [← he v hv']; exact h.1 v hv'
  · obtain ⟨vx, vy, vz⟩ := hv c hc
    rw [← he _ vx, ← he _ vy, ← he _ vz]
    exact h.2 c hc
theorem rn_sat_d (he : ∀ v, v < n → D v = D' v) (h : rn_sat n m C X Y Z D f) : rn_sat n m C X Y Z D' f :=
  ⟨fun v hv => by rw [← he v hv]; exact h.1 v hv, h.2⟩
theorem rn_sat_di (he : ∀ v, v < n → D v = D' v) : rn_sat n m C X Y Z D f ↔ rn_sat n m C X Y Z D' f :=
  ⟨rn_sat_d he, rn_sat_d (fun v hv => (he v hv).symm)⟩
theorem rn_sat_num (hv : rn_vars n m X Y Z) : (∃ f, rn_sat n m C X Y Z D f) ↔ ∃ k, k < 2 ^ n ∧ rn_sat n m C X Y Z D (fun v => k.testBit v) := by
  constructor
  · intro ⟨f, h⟩
    obtain ⟨k, hk, e⟩ := rn_num f n
    exact ⟨k, hk, rn_sat_c hv (fun v hv' => (e v hv').symm) h⟩
  · intro ⟨k, _, h⟩
    exact ⟨_, h⟩
end
/-- sizes of domains -/
def rn_pc (D : Nat → Nat) : Nat → Nat
  | 0 => 0
  | v + 1 => rn_pc D v + (D v % 2 + D v / 2)
theorem rn_pc_le {D D' : Nat → Nat} {k : Nat} (h : ∀ v, v < k → D' v % 2 + D' v / 2 ≤ D v % 2 + D v / 2) : rn_pc D' k ≤ rn_pc D k := by
  induction k with
  | zero => exact Nat.le_refl 0
  | succ k ih =>
    have h1 := ih (fun v hv => h v (by omega))
    have h2 := h k (by omega)
    show rn_pc D' k + _ ≤ rn_pc D k + _
    omega
theorem rn_pc_lt {D D' : Nat → Nat} {k w : Nat} (h : ∀ v, v < k → D' v % 2 + D' v / 2 ≤ D v % 2 + D v / 2) (hw : w < k) (h' : D' w % 2 + D' w / 2 < D w % 2 + D w / 2) : rn_pc D' k < rn_pc D k := by
  induction k with
  | zero => omega
  | succ k ih =>
    show rn_pc D' k + _ < rn_pc D k + _
    have h2 := h k (by omega)
    by_cases e : w = k
    · subst e
      have h1 := rn_pc_le (D := D) (D' := D') (k := w) (fun v hv => h v (by omega))
      omega
    · have h1 := ih (fun v hv => h v (by omega)) (by omega)
      omega
theorem rn_pc_16 {D : Nat → Nat} {k : Nat} (h : ∀ v, v < k → D v < 4) : rn_pc D k ≤ 2 * k := by
  induction k with
  | zero => exact Nat.le_refl 0
  | succ k ih =>
    have h1 := ih (fun v hv => h v (by omega))
    have h2 := h k (by omega)
    show rn_pc D k + _ ≤ _
    omega
theorem rn_sub4 : ∀ d, d < 4 → ∀ d', d' < 4 → (∀ b : Bool, d'.testBit b.toNat = true → d.testBit b.toNat = true) → d' % 2 + d' / 2 ≤ d % 2 + d / 2 ∧ (d' ≠ d → d' % 2 + d' / 2 < d % 2 + d / 2) := by decide
theorem rn_sub3 : ∀ d, d < 4 → ∀ d', d' < 4 → (∀ b : Bool, d'.testBit b.toNat = true → d.testBit b.toNat = true) → d' = 3 → d = 3 := by decide
/-- how many domains hold both values -/
def rn_oc (D : Nat → Nat) : Nat → Nat
  | 0 => 0
  | v + 1 => rn_oc D v + (if D v = 3 then 1 else 0)
theorem rn_oc_le {D D' : Nat → Nat} {k : Nat} (h : ∀ v, v < k → D' v = 3 → D v = 3) : rn_oc D' k ≤ rn_oc D k := by
  induction k with
  | zero => exact Nat.le_refl 0
  | succ k ih =>
    have h1 := ih (fun v hv => h v (by omega))
    have h2 := h k (by omega)
    show rn_oc D' k + _ ≤ rn_oc D k + _
    by_cases e : D' k = 3
    · rw [if_pos e, if_pos (h2 e)]; omega
    · rw [if_neg e]; omega
theorem rn_oc_lt {D D' : Nat → Nat} {k w : Nat} (h : ∀ v, v < k → D' v = 3 → D v = 3) (hw : w < k) (h0 : D w = 3) (h1 : D' w ≠ 3) : rn_oc D' k < rn_oc D k := by
  induction k with
  | zero => omega
  | succ k ih =>
    show rn_oc D' k + _ < rn_oc D k + _
    have h2 := h k (by omega)
    by_cases e : w = k
    · subst e
      have h3 := rn_oc_le (D := D) (D' := D') (k := w) (fun v hv => h v (by omega))
      rw [if_neg h1, if_pos h0]; omega
    · have h3 := ih (fun v hv => h v (by omega)) (by omega)
      by_cases e' : D' k = 3
      · rw [if_pos e', if_pos (h2 e')]; omega
      · rw [if_neg e']; omega
theorem rn_oc_n (D : Nat → Nat) (k : Nat) : rn_oc D k ≤ k := by
  induction k with
  | zero => exact Nat.le_refl 0
  | succ k ih =>
    show rn_oc D k + _ ≤ _
    split <;> omega
theorem rn_oc_pos {D : Nat → Nat} {k w : Nat} (hw : w < k) (h : D w = 3) : 0 < rn_oc D k := by
  induction k with
  | zero => omega
  | succ k ih =>
    show 0 < rn_oc D k + _
    by_cases e : w = k
    · subst e
      rw [if_pos h]; omega
    · have := ih (by omega)
      omega
/-- one place of a domain set -/
def rn_put (D : Nat → Nat) (v d : Nat) : Nat → Nat := fun u => if u = v then d else D u
theorem rn_put_s (D : Nat → Nat) (v d : Nat) : rn_put D v d v = d := if_pos rfl
theorem rn_put_n (D : Nat → Nat) {u v : Nat} (d : Nat) (h : u ≠ v) : rn_put D v d u = D u := if_neg h
end
section
/-! part 3: parities of rows, elimination, how many solutions rows in steps have -/
def rn_par (w : Nat) (f : Nat → Bool) : Nat → Bool
  | 0 => false
  | v + 1 => (rn_par w f v) ^^ (w.testBit v && f v)
theorem rn_par_x (w w' : Nat) (f : Nat → Bool) (k : Nat) : rn_par (w ^^^ w') f k = (rn_par w f k ^^ rn_par w' f k) := by
  induction k with
  | zero => rfl
  | succ k ih =>
    show (rn_par (w ^^^ w') f k ^^ ((w ^^^ w').testBit k && f k)) = ((rn_par w f k ^^ (w.testBit k && f k)) ^^ (rn_par w' f k ^^ (w'.testBit k && f k)))
    rw [ih, Nat.testBit_xor]
    cases rn_par w f k <;> cases rn_par w' f k <;> cases w.testBit k <;> cases w'.testBit k <;> cases f k <;> rfl
theorem rn_par_c {w w' : Nat} {f g : Nat → Bool} {k : Nat} (h : ∀ v, v < k → (w.testBit v && f v) = (w'.testBit v && g v)) : rn_par w f k = rn_par w' g k := by
  induction k with
  | zero => rfl
  | succ k ih =>
    show (rn_par w f k ^^ (w.testBit k && f k)) = (rn_par w' g k ^^ (w'.testBit k && g k))
    rw [ih (fun v hv => h v (by omega)), h k (by omega)]
theorem rn_par_0 {w : Nat} {f : Nat → Bool} {k : Nat} (h : ∀ v, v < k → w.testBit v = false) : rn_par w f k = false := by
  induction k with
  | zero => rfl
  | succ k ih =>
    show (rn_par w f k ^^ (w.testBit k && f k)) = false
    rw [ih (fun v hv => h v (by omega)), h k (by omega)]
    rfl
theorem rn_par_1 {x : Nat} {f : Nat → Bool} {k : Nat} (hx : x < k) : rn_par (2 ^ x) f k = f x := by
  induction k with
  | zero => omega
  | succ k ih =>
    show (rn_par (2 ^ x) f k ^^ ((2 ^ x).testBit k && f k)) = f x
    by_cases e : x = k
    · subst e
      rw [rn_par_0 (fun v hv => Nat.testBit_two_pow_of_ne (by omega)), Nat.testBit_two_pow_self]
      cases f x <;> rfl
    · rw [ih (by omega), Nat.testBit_two_pow_of_ne e]
      cases f x <;> rfl
theorem rn_par_flip {w : Nat} {f g : Nat → Bool} {k v : Nat} (hv : v < k) (hw : w.testBit v = true) (he : ∀ i, i < k → i ≠ v → (w.testBit i && f i) = (w.testBit i && g i)) (hf : f v = !g v) : rn_par w f k = !rn_par w g k := by
  induction k with
  | zero => omega
  | succ k ih =>
    show (rn_par w f k ^^ (w.testBit k && f k)) = !(rn_par w g k ^^ (w.testBit k && g k))
    by_cases e : v = k
    · subst e
      rw [rn_par_c (w := w) (w' := w) (f := f) (g := g) (fun i hi => he i (by omega) (by omega)), hw, hf]
      cases rn_par w g v <;> cases g v <;> rfl
    · rw [ih (by omega) (fun i hi => he i (by omega)), he k (by omega) (by omega)]
      cases rn_par w g k <;> cases w.testBit k <;> cases g k <;> rfl
def rn_eqn (n w : Nat) (f : Nat → Bool) : Prop := rn_par w f n = w.testBit 8
def rn_rw (n w : Nat) : Prop := ∀ u, n ≤ u → u ≠ 8 → w.testBit u = false
def rn_ech (n : Nat) (B : Nat → Nat) : Prop := ∀ v, v < n → rn_rw n (B v) ∧ (∀ u, u < v → (B v).testBit u = false) ∧ (B v ≠ 0 → (B v).testBit v = true)
def rn_rows (n : Nat) (B : Nat → Nat) (f : Nat → Bool) : Prop := ∀ v, v < n → rn_eqn n (B v) f
theorem rn_eqn_x {n w w' : Nat} {f : Nat → Bool} (h : rn_eqn n w' f) : rn_eqn n (w ^^^ w') f ↔ rn_eqn n w f := by
  unfold rn_eqn at h ⊢
  rw [rn_par_x, Nat.testBit_xor, h]
  cases rn_par w f n <;> cases w.testBit 8 <;> cases w'.testBit 8 <;> decide
theorem rn_eqn_0 (n : Nat) (f : Nat → Bool) : rn_eqn n 0 f := by
  unfold rn_eqn
  rw [rn_par_0 (fun v _ => Nat.zero_testBit v), Nat.zero_testBit]
theorem rn_rw_lt {n w : Nat} (hn : n ≤ 8) (h : rn_rw n w) : w < 512 :=
  Nat.lt_pow_two_of_testBit (n := 9) w (fun i hi => h i (by omega) (by omega))
theorem rn_rw_x {n w w' : Nat} (h : rn_rw n w) (h' : rn_rw n w') : rn_rw n (w ^^^ w') := by
  intro u hu h8
  rw [Nat.testBit_xor, h u hu h8, h' u hu h8]
  rfl
theorem rn_fin {n w : Nat} {f : Nat → Bool} (hw : rn_rw n w) (hz : ∀ u, u < n → w.testBit u = false) (h : w ≠ 0) : ¬ rn_eqn n w f := by
  unfold rn_eqn
  rw [rn_par_0 hz]
  obtain ⟨i, hi⟩ := Nat.exists_testBit_of_ne_zero h
  have e : i = 8 := by
    apply Classical.byContradiction
    intro e
    rcases Nat.lt_or_ge i n with z | z
    · rw [hz i z] at hi
      exact absurd hi (by decide)
    · rw [hw i z e] at hi
      exact absurd hi (by decide)
  subst e
  have hi' : w.testBit 8 = true := hi
  rw [hi']
  decide
/-- rows filled -/
def rn_rk (B : Nat → Nat) : Nat → Nat
  | 0 => 0
  | v + 1 => rn_rk B v + (if B v = 0 then 0 else 1)
theorem rn_rk_le (B : Nat → Nat) (k : Nat) : rn_rk B k ≤ k := by
  induction k with
  | zero => exact Nat.le_refl 0
  | succ k ih =>
    show rn_rk B k + _ ≤ _
    split <;> omega
theorem rn_A_hi {v j b i : Nat} (hb : b < 2) (hi : v < i) : ((2 * j + b) * 2 ^ v).testBit i = (j * 2 ^ (v + 1)).testBit i := by
  rw [Nat.testBit_mul_two_pow, Nat.testBit_mul_two_pow, show i - v = (i - (v + 1)) + 1 by omega, Nat.testBit_add_one, show (2 * j + b) / 2 = j by omega]
  rw [decide_eq_true (show v ≤ i by omega), decide_eq_true (show v + 1 ≤ i by omega)]
theorem rn_A_at {v j b : Nat} (hb : b < 2) : ((2 * j + b) * 2 ^ v).testBit v = decide (b = 1) := by
  rw [Nat.testBit_mul_two_pow, decide_eq_true (Nat.le_refl v), Nat.sub_self, Nat.testBit_zero, Bool.true_and]
  congr 1
  apply propext
  constructor <;> intro h <;> omega
def rn_P (n : Nat) (B : Nat → Nat) (v j : Nat) : Prop := ∀ u, v ≤ u → u < n → rn_eqn n (B u) (fun i => (j * 2 ^ v).testBit i)
theorem rn_P_s {n : Nat} {B : Nat → Nat} (he : rn_ech n B) {v j b : Nat} (hb : b < 2) (hv : v < n) : rn_P n B v (2 * j + b) ↔ rn_eqn n (B v) (fun i => ((2 * j + b) * 2 ^ v).testBit i) ∧ rn_P n B (v + 1) j := by
  have key : ∀ u, v + 1 ≤ u → u < n → (rn_eqn n (B u) (fun i => ((2 * j + b) * 2 ^ v).testBit i) ↔ rn_eqn n (B u) (fun i => (j * 2 ^ (v + 1)).testBit i)) := by
    intro u h1 h2
    unfold rn_eqn
    rw [rn_par_c (w := B u) (w' := B u) (f := fun i => ((2 * j + b) * 2 ^ v).testBit i) (g := fun i => (j * 2 ^ (v + 1)).testBit i) (fun i hi => ?_)]
    rcases Nat.lt_or_ge i u with z | z
    · rw [(he u h2).2.1 i z]
      rfl
    · show ((B u).testBit i && ((2 * j + b) * 2 ^ v).testBit i) = ((B u).testBit i && (j * 2 ^ (v + 1)).testBit i)
      rw [rn_A_hi hb (by omega)]
  constructor
  · intro h
    exact ⟨h v (Nat.le_refl v) hv, fun u h1 h2 => (key u h1 h2).mp (h u (by omega) h2)⟩
  · intro h u h1 h2
    by_cases e : u = v
    · rw [e]; exact h.1
    · exact (key u (by omega) h2).mpr (h.2 u (by omega) h2)
theorem rn_gauss {n : Nat} {B : Nat → Nat} (he : rn_ech n B) : ∀ d, d ≤ n → rn_cnt (rn_P n B (n - d)) (2 ^ d) * 2 ^ (rn_rk B n) = 2 ^ d * 2 ^ (rn_rk B (n - d)) := by
  intro d
  induction d with
  | zero =>
    intro _
    have h0 : rn_P n B (n - 0) 0 := fun u h1 h2 => absurd h1 (by omega)
    have h1 : rn_cnt (rn_P n B (n - 0)) (2 ^ 0) = 1 := rn_cnt_t (k := 0) h0
    rw [h1, Nat.sub_zero, Nat.pow_zero]
  | succ d ih =>
    intro hd
    have ih' := ih (by omega)
    obtain ⟨v, hv⟩ : ∃ v, v = n - (d + 1) := ⟨_, rfl⟩
    rw [← hv]
    rw [show n - d = v + 1 by omega] at ih'
    rw [show 2 ^ (d + 1) = 2 * 2 ^ d by rw [Nat.pow_succ, Nat.mul_comm], rn_cnt_2]
    have vn : v < n := by omega
    by_cases hz : B v = 0
    · have e0 : rn_cnt (fun j => rn_P n B v (2 * j)) (2 ^ d) = rn_cnt (rn_P n B (v + 1)) (2 ^ d) := by
        apply rn_cnt_c
        intro j _
        have t := rn_P_s (j := j) (b := 0) he (by omega) vn
        rw [hz] at t
        exact ⟨fun h => (t.mp h).2, fun h => t.mpr ⟨rn_eqn_0 _ _, h⟩⟩
      have e1 : rn_cnt (fun j => rn_P n B v (2 * j + 1)) (2 ^ d) = rn_cnt (rn_P n B (v + 1)) (2 ^ d) := by
        apply rn_cnt_c
        intro j _
        have t := rn_P_s (j := j) (b := 1) he (by omega) vn
        rw [hz] at t
        exact ⟨fun h => (t.mp h).2, fun h => t.mpr ⟨rn_eqn_0 _ _, h⟩⟩
      rw [e0, e1]
      have r : rn_rk B (v + 1) = rn_rk B v := by
        show rn_rk B v + _ = _
        rw [if_pos hz]
        rfl
      rw [r] at ih'
      rw [Nat.add_mul, ih', Nat.mul_assoc]
      omega
    · have es : rn_cnt (rn_P n B (v + 1)) (2 ^ d) = rn_cnt (fun j => rn_P n B v (2 * j)) (2 ^ d) + rn_cnt (fun j => rn_P n B v (2 * j + 1)) (2 ^ d) := by
        have fl : ∀ j, rn_par (B v) (fun i => ((2 * j + 1) * 2 ^ v).testBit i) n = !rn_par (B v) (fun i => ((2 * j + 0) * 2 ^ v).testBit i) n := by
          intro j
          refine rn_par_flip (v := v) vn ((he v vn).2.2 hz) (fun i hi hne => ?_) ?_
          · rcases Nat.lt_or_ge i v with z | z
            · rw [(he v vn).2.1 i z]
              rfl
            · show ((B v).testBit i && ((2 * j + 1) * 2 ^ v).testBit i) = ((B v).testBit i && ((2 * j + 0) * 2 ^ v).testBit i)
              rw [rn_A_hi (b := 1) (by omega) (by omega), rn_A_hi (b := 0) (by omega) (by omega)]
          · show ((2 * j + 1) * 2 ^ v).testBit v = !((2 * j + 0) * 2 ^ v).testBit v
            rw [rn_A_at (b := 1) (by omega), rn_A_at (b := 0) (by omega)]
            rfl
        apply rn_cnt_add
        · intro j _
          have t0 := rn_P_s (j := j) (b := 0) he (by omega) vn
          have t1 := rn_P_s (j := j) (b := 1) he (by omega) vn
          constructor
          · intro h
            by_cases e : rn_eqn n (B v) (fun i => ((2 * j + 0) * 2 ^ v).testBit i)
            · exact Or.inl (t0.mpr ⟨e, h⟩)
            · refine Or.inr (t1.mpr ⟨?_, h⟩)
              have f := fl j
              unfold rn_eqn at e ⊢
              rw [f]
              generalize rn_par (B v) (fun i => ((2 * j + 0) * 2 ^ v).testBit i) n = a at e
              generalize (B v).testBit 8 = b at e
              revert e
              cases a <;> cases b <;> decide
          · intro h
            rcases h with h | h
            · exact (t0.mp h).2
            · exact (t1.mp h).2
        · intro j _ h
          have t0 := rn_P_s (j := j) (b := 0) he (by omega) vn
          have t1 := rn_P_s (j := j) (b := 1) he (by omega) vn
          have h0 := (t0.mp h.1).1
          have h1 := (t1.mp h.2).1
          have f := fl j
          unfold rn_eqn at h0 h1
          rw [f, h0] at h1
          revert h1
          cases (B v).testBit 8 <;> decide
      rw [← es]
      have r : rn_rk B (v + 1) = rn_rk B v + 1 := by
        show rn_rk B v + _ = _
        rw [if_neg hz]
      rw [r, Nat.pow_succ] at ih'
      rw [ih', Nat.mul_comm (2 ^ rn_rk B v) 2, ← Nat.mul_assoc, Nat.mul_comm (2 ^ d) 2]
theorem rn_rowcnt {n : Nat} {B : Nat → Nat} (he : rn_ech n B) : rn_cnt (fun k => rn_rows n B (fun i => k.testBit i)) (2 ^ n) = 2 ^ (n - rn_rk B n) := by
  have g := rn_gauss he n (Nat.le_refl n)
  rw [Nat.sub_self] at g
  have e : rn_cnt (rn_P n B 0) (2 ^ n) = rn_cnt (fun k => rn_rows n B (fun i => k.testBit i)) (2 ^ n) := by
    apply rn_cnt_c
    intro j _
    unfold rn_P rn_rows
    rw [Nat.pow_zero, Nat.mul_one]
    exact ⟨fun h u hu => h u (Nat.zero_le u) hu, fun h u _ hu => h u hu⟩
  rw [e] at g
  have r : rn_rk B 0 = 0 := rfl
  rw [r, Nat.pow_zero, Nat.mul_one] at g
  apply Nat.eq_of_mul_eq_mul_right (Nat.two_pow_pos (rn_rk B n))
  rw [g, ← Nat.pow_add, Nat.sub_add_cancel (rn_rk_le B n)]
theorem rn_rows_ex {n : Nat} {B : Nat → Nat} (he : rn_ech n B) : ∃ f, rn_rows n B f := by
  have h : 0 < rn_cnt (fun k => rn_rows n B (fun i => k.testBit i)) (2 ^ n) := by
    rw [rn_rowcnt he]
    exact Nat.two_pow_pos _
  obtain ⟨j, _, hj⟩ := rn_cnt_ex h
  exact ⟨_, hj⟩
/-- parities within a mask -/
def rn_pb (t k : Nat) : Bool := ((t.testBit 2 && k.testBit 2) ^^ (t.testBit 1 && k.testBit 1)) ^^ (t.testBit 0 && k.testBit 0)
theorem rn_pb_i : ∀ t, t < 8 → ∀ k, k < 8 → (((nI t &&& nI k) ^^^ ((nI t &&& nI k) >>> ((1 : Int32) &&& 31))) ^^^ ((nI t &&& nI k) >>> ((2 : Int32) &&& 31))) &&& 1 = nI (rn_pb t k).toNat := by decide +kernel
def rn_xc (T : Nat) : Prop := ∀ s, s < 8 → ∀ t, t < 8 → ∀ u, u < 8 → T.testBit s = true → T.testBit t = true → T.testBit u = true → T.testBit (s ^^^ t ^^^ u) = true
def rn_ma (T : Nat) : Prop := ∀ s, s < 8 → ∀ t, t < 8 → ∀ u, u < 8 → T.testBit s = true → T.testBit t = true → T.testBit u = true → T.testBit ((s &&& t) ||| (s &&& u) ||| (t &&& u)) = true
def rn_xcb (T : Nat) : Bool := (List.range 8).all fun s => !T.testBit s || (List.range 8).all fun t => !T.testBit t || (List.range 8).all fun u => !T.testBit u || T.testBit (s ^^^ t ^^^ u)
def rn_afb (T : Nat) : Bool := (List.range 8).all fun t => T.testBit t || (List.range 8).any fun k => (1 ≤ k) && (List.range 8).all fun s => !T.testBit s || (rn_pb s k != rn_pb t k)
theorem rn_affk : (List.range 256).all (fun T => T == 0 || !rn_xcb T || rn_afb T) = true := by decide +kernel
theorem rn_aff {T : Nat} (hT : T < 256) (h0 : T ≠ 0) (hx : rn_xc T) {t : Nat} (ht : t < 8) (hf : T.testBit t = false) : ∃ k, 1 ≤ k ∧ k < 8 ∧ ∀ s, s < 8 → T.testBit s = true → rn_pb s k ≠ rn_pb t k := by
  have h := (List.all_eq_true.mp rn_affk) T (List.mem_range.mpr hT)
  have hxb : rn_xcb T = true := by
    unfold rn_xcb
    rw [List.all_eq_true]
    intro s hs
    have hs' := List.mem_range.mp hs
    cases e1 : T.testBit s
    · rfl
    · show (List.all _ _) = true
      rw [List.all_eq_true]
      intro u hu
      have hu' := List.mem_range.mp hu
      cases e2 : T.testBit u
      · rfl
      · show (List.all _ _) = true
        rw [List.all_eq_true]
        intro w hw
        have hw' := List.mem_range.mp hw
        cases e3 : T.testBit w
        · rfl
        · exact hx s hs' u hu' w hw' e1 e2 e3
  rw [hxb] at h
  have h1 : rn_afb T = true := by
    cases e : (T == 0)
    · rw [e] at h
      exact h
    · exact absurd (eq_of_beq e) h0
  unfold rn_afb at h1
  have h2 := (List.all_eq_true.mp h1) t (List.mem_range.mpr ht)
  rw [hf, Bool.false_or, List.any_eq_true] at h2
  obtain ⟨k, hk, h3⟩ := h2
  rw [Bool.and_eq_true, decide_eq_true_iff, List.all_eq_true] at h3
  refine ⟨k, h3.1, List.mem_range.mp hk, fun s hs hsT => ?_⟩
  have h4 := h3.2 s (List.mem_range.mpr hs)
  rw [hsT] at h4
  have h5 : (rn_pb s k != rn_pb t k) = true := h4
  intro e
  rw [e] at h5
  revert h5
  cases rn_pb t k <;> decide
theorem rn_maj_ix : ∀ p q r p' q' r' : Bool, (rn_ix p q r' &&& rn_ix p q' r) ||| (rn_ix p q r' &&& rn_ix p' q r) ||| (rn_ix p q' r &&& rn_ix p' q r) = rn_ix p q r := by decide
theorem rn_maj {T : Nat} (h : rn_ma T) {p q r : Bool} (h1 : ∃ r', T.testBit (rn_ix p q r') = true) (h2 : ∃ q', T.testBit (rn_ix p q' r) = true) (h3 : ∃ p', T.testBit (rn_ix p' q r) = true) : T.testBit (rn_ix p q r) = true := by
  obtain ⟨r', h1⟩ := h1
  obtain ⟨q', h2⟩ := h2
  obtain ⟨p', h3⟩ := h3
  have t := h _ (rn_ix_lt _ _ _) _ (rn_ix_lt _ _ _) _ (rn_ix_lt _ _ _) h1 h2 h3
  rw [rn_maj_ix] at t
  exact t
theorem rn_pb_ix : ∀ p q r : Bool, ∀ k, k < 8 → rn_pb (rn_ix p q r) k = (((p && k.testBit 2) ^^ (q && k.testBit 1)) ^^ (r && k.testBit 0)) := by decide
end
section
/-! part 4: implications between literals -/
def rn_lit (f : Nat → Bool) (p : Nat) : Prop := f (p / 2) = decide (p % 2 = 1)
def rn_E (G : Nat → Nat) (a b : Nat) : Prop := (G a).testBit b = true
def rn_resp (G : Nat → Nat) (f : Nat → Bool) : Prop := ∀ p, p < 16 → ∀ q, q < 16 → rn_E G p q → rn_lit f p → rn_lit f q
def rn_good (n : Nat) (G : Nat → Nat) : Prop := (∀ p, p < 16 → G p < 65536) ∧ (∀ p, p < 16 → rn_E G p p) ∧ (∀ p, p < 16 → ∀ q, q < 16 → rn_E G p q → rn_E G (q ^^^ 1) (p ^^^ 1)) ∧ (∀ p, p < 16 → ∀ q, q < 16 → rn_E G p q → p = q ∨ (p < 2 * n ∧ q < 2 * n))
theorem rn_x1 : ∀ p, p < 16 → (p ^^^ 1) < 16 ∧ (p ^^^ 1) ^^^ 1 = p ∧ (p ^^^ 1) / 2 = p / 2 ∧ (p ^^^ 1) % 2 = 1 - p % 2 := by decide
theorem rn_x1n : ∀ n, n ≤ 8 → ∀ p, p < 2 * n → (p ^^^ 1) < 2 * n := by decide
theorem rn_lit_x {f : Nat → Bool} {p : Nat} (hp : p < 16) : rn_lit f (p ^^^ 1) ↔ ¬ rn_lit f p := by
  unfold rn_lit
  rw [(rn_x1 p hp).2.2.1, (rn_x1 p hp).2.2.2]
  rcases Nat.mod_two_eq_zero_or_one p with h | h <;> rw [h] <;> cases f (p / 2) <;> decide
def rn_forb (p q : Nat) (G G' : Nat → Nat) : Prop := ∀ a, a < 16 → ∀ b, b < 16 → (rn_E G' a b ↔ rn_E G a b ∨ (a = p ∧ b = q ^^^ 1) ∨ (a = q ∧ b = p ^^^ 1))
theorem rn_forb_good {n p q : Nat} {G G' : Nat → Nat} (hn : n ≤ 8) (hp : p < 2 * n) (hq : q < 2 * n) (h : rn_good n G) (hf : rn_forb p q G G') (hb : ∀ a, a < 16 → G' a < 65536) : rn_good n G' := by
  obtain ⟨_, h2, h3, h4⟩ := h
  have p16 : p < 16 := by omega
  have q16 : q < 16 := by omega
  refine ⟨hb, fun a ha => (hf a ha a ha).mpr (Or.inl (h2 a ha)), fun a ha b hb' e => ?_, fun a ha b hb' e => ?_⟩
  · have a1 := (rn_x1 a ha).1
    have b1 := (rn_x1 b hb').1
    rcases (hf a ha b hb').mp e with e | ⟨e1, e2⟩ | ⟨e1, e2⟩
    · exact (hf _ b1 _ a1).mpr (Or.inl (h3 a ha b hb' e))
    · refine (hf _ b1 _ a1).mpr (Or.inr (Or.inr ⟨?_, by rw [e1]⟩))
      rw [e2, (rn_x1 q q16).2.1]
    · refine (hf _ b1 _ a1).mpr (Or.inr (Or.inl ⟨?_, by rw [e1]⟩))
      rw [e2, (rn_x1 p p16).2.1]
  · rcases (hf a ha b hb').mp e with e | ⟨e1, e2⟩ | ⟨e1, e2⟩
    · exact h4 a ha b hb' e
    · exact Or.inr ⟨by rw [e1]; exact hp, by rw [e2]; exact rn_x1n n hn q hq⟩
    · exact Or.inr ⟨by rw [e1]; exact hq, by rw [e2]; exact rn_x1n n hn p hp⟩
theorem rn_forb_resp {p q : Nat} {G G' : Nat → Nat} {f : Nat → Bool} (hp : p < 16) (hq : q < 16) (hf : rn_forb p q G G') : rn_resp G' f ↔ rn_resp G f ∧ ¬ (rn_lit f p ∧ rn_lit f q) := by
  have p1 := (rn_x1 p hp).1
  have q1 := (rn_x1 q hq).1
  constructor
  · intro h
    refine ⟨fun a ha b hb e => h a ha b hb ((hf a ha b hb).mpr (Or.inl e)), fun g => ?_⟩
    exact (rn_lit_x hq).mp (h p hp _ q1 ((hf p hp _ q1).mpr (Or.inr (Or.inl ⟨rfl, rfl⟩))) g.1) g.2
  · intro h a ha b hb e l
    rcases (hf a ha b hb).mp e with e | ⟨e1, e2⟩ | ⟨e1, e2⟩
    · exact h.1 a ha b hb e l
    · subst e1
      rw [e2]
      exact (rn_lit_x hq).mpr (fun g => h.2 ⟨l, g⟩)
    · subst e1
      rw [e2]
      exact (rn_lit_x hp).mpr (fun g => h.2 ⟨g, l⟩)
/-- one round of closing -/
def rn_war (mid : Nat) (G G' : Nat → Nat) : Prop := ∀ a, a < 16 → ∀ b, b < 16 → (rn_E G' a b ↔ rn_E G a b ∨ (rn_E G a mid ∧ rn_E G mid b))
/-- G after the rounds below mid, from E -/
def rn_clo (mid : Nat) (E G : Nat → Nat) : Prop := (∀ j, j < mid → ∀ a, a < 16 → ∀ b, b < 16 → rn_E G a j → rn_E G j b → rn_E G a b) ∧ (∀ a, a < 16 → ∀ b, b < 16 → rn_E E a b → rn_E G a b) ∧ (∀ S : Nat → Nat → Prop, (∀ a, a < 16 → ∀ j, j < 16 → ∀ b, b < 16 → S a j → S j b → S a b) → (∀ a, a < 16 → ∀ b, b < 16 → rn_E E a b → S a b) → ∀ a, a < 16 → ∀ b, b < 16 → rn_E G a b → S a b)
theorem rn_clo_0 (E : Nat → Nat) : rn_clo 0 E E := ⟨fun j hj => absurd hj (by omega), fun a _ b _ e => e, fun S _ h => h⟩
theorem rn_clo_s {mid : Nat} {E G G' : Nat → Nat} (hm : mid < 16) (h : rn_clo mid E G) (hw : rn_war mid G G') : rn_clo (mid + 1) E G' := by
  obtain ⟨h1, h2, h3⟩ := h
  refine ⟨fun j hj a ha b hb e1 e2 => ?_, fun a ha b hb e => (hw a ha b hb).mpr (Or.inl (h2 a ha b hb e)), fun S hS hE a ha b hb e => ?_⟩
  · have j16 : j < 16 := by omega
    rw [hw a ha b hb]
    have f1 := (hw a ha j j16).mp e1
    have f2 := (hw j j16 b hb).mp e2
    by_cases ej : j = mid
    · subst ej
      have g1 : rn_E G a j := f1.elim id (fun t => t.1)
      have g2 : rn_E G j b := f2.elim id (fun t => t.2)
      exact Or.inr ⟨g1, g2⟩
    · have jm : j < mid := by omega
      rcases f1 with f1 | f1
      · rcases f2 with f2 | f2
        · exact Or.inl (h1 j jm a ha b hb f1 f2)
        · exact Or.inr ⟨h1 j jm a ha mid hm f1 f2.1, f2.2⟩
      · rcases f2 with f2 | f2
        · exact Or.inr ⟨f1.1, h1 j jm mid hm b hb f1.2 f2⟩
        · exact Or.inr ⟨f1.1, f2.2⟩
  · rcases (hw a ha b hb).mp e with e | e
    · exact h3 S hS hE a ha b hb e
    · exact hS a ha mid hm b hb (h3 S hS hE a ha mid hm e.1) (h3 S hS hE mid hm b hb e.2)
theorem rn_clo_skew {n : Nat} {E R : Nat → Nat} (hE : rn_good n E) (h : rn_clo 16 E R) : ∀ a, a < 16 → ∀ b, b < 16 → rn_E R a b → rn_E R (b ^^^ 1) (a ^^^ 1) := by
  obtain ⟨h1, h2, h3⟩ := h
  refine h3 (fun a b => rn_E R (b ^^^ 1) (a ^^^ 1)) (fun a ha j hj b hb e1 e2 => ?_) (fun a ha b hb e => ?_)
  · exact h1 _ (rn_x1 j hj).1 _ (rn_x1 b hb).1 _ (rn_x1 a ha).1 e2 e1
  · exact h2 _ (rn_x1 b hb).1 _ (rn_x1 a ha).1 (hE.2.2.1 a ha b hb e)
theorem rn_clo_no {E R : Nat → Nat} {f : Nat → Bool} (h : rn_clo 16 E R) (hf : rn_resp E f) {v : Nat} (hv : v < 8) (h1 : rn_E R (2 * v) (2 * v + 1)) (h2 : rn_E R (2 * v + 1) (2 * v)) : False := by
  have key := h.2.2 (fun a b => rn_lit f a → rn_lit f b) (fun a _ j _ b _ s t l => t (s l)) hf
  have k1 := key (2 * v) (by omega) (2 * v + 1) (by omega) h1
  have k2 := key (2 * v + 1) (by omega) (2 * v) (by omega) h2
  unfold rn_lit at k1 k2
  rw [show (2 * v + 1) / 2 = v by omega, show 2 * v / 2 = v by omega, show (2 * v + 1) % 2 = 1 by omega, show 2 * v % 2 = 0 by omega] at k1 k2
  cases e : f v
  · have := k1 e
    rw [e] at this
    exact absurd this (by decide)
  · have := k2 e
    rw [e] at this
    exact absurd this (by decide)
theorem rn_xe : ∀ v, v < 8 → (2 * v) ^^^ 1 = 2 * v + 1 ∧ (2 * v + 1) ^^^ 1 = 2 * v := by decide
theorem rn_clo_A {n : Nat} {E R : Nat → Nat} (hn : n ≤ 8) (hE : rn_good n E) (h : rn_clo 16 E R) (hc : ∀ v, v < n → ¬ (rn_E R (2 * v) (2 * v + 1) ∧ rn_E R (2 * v + 1) (2 * v))) :
    ∀ v, v ≤ n → ∃ A : Nat → Prop, (∀ a, a < 16 → ∀ b, b < 16 → A a → rn_E R a b → A b) ∧ (∀ a, a < 16 → A a → ¬ A (a ^^^ 1)) ∧ (∀ u, u < v → A (2 * u) ∨ A (2 * u + 1)) := by
  have sk := rn_clo_skew hE h
  intro v
  induction v with
  | zero => exact fun _ => ⟨fun _ => False, fun a _ b _ f _ => f, fun a _ f => f.elim, fun u hu => absurd hu (by omega)⟩
  | succ v ih =>
    intro hv
    obtain ⟨A, a1, a2, a3⟩ := ih (by omega)
    by_cases hd : A (2 * v) ∨ A (2 * v + 1)
    · refine ⟨A, a1, a2, fun u hu => ?_⟩
      by_cases e : u = v
      · rw [e]; exact hd
      · exact a3 u (by omega)
    · have xe := rn_xe v (by omega)
      obtain ⟨l, l16, lv, hl, hx⟩ : ∃ l, l < 16 ∧ (l = 2 * v ∨ l = 2 * v + 1) ∧ ¬ rn_E R l (l ^^^ 1) ∧ ¬ A (l ^^^ 1) := by
        by_cases e : rn_E R (2 * v) (2 * v + 1)
        · refine ⟨2 * v + 1, by omega, Or.inr rfl, ?_, ?_⟩
          · rw [xe.2]; exact fun g => hc v (by omega) ⟨e, g⟩
          · rw [xe.2]; exact fun g => hd (Or.inl g)
        · refine ⟨2 * v, by omega, Or.inl rfl, ?_, ?_⟩
          · rw [xe.1]; exact e
          · rw [xe.1]; exact fun g => hd (Or.inr g)
      have l1 := (rn_x1 l l16).1
      refine ⟨fun a => A a ∨ rn_E R l a, fun a ha b hb g e => ?_, fun a ha g1 g2 => ?_, fun u hu => ?_⟩
      · rcases g with g | g
        · exact Or.inl (a1 a ha b hb g e)
        · exact Or.inr (h.1 a ha l l16 b hb g e)
      · have x1 := rn_x1 a ha
        rcases g2 with g2 | g2
        · rcases g1 with g1 | g1
          · exact a2 a ha g1 g2
          · exact hx (a1 _ x1.1 _ l1 g2 (sk l l16 a ha g1))
        · have s := sk l l16 _ x1.1 g2
          rw [x1.2.1] at s
          rcases g1 with g1 | g1
          · exact hx (a1 a ha _ l1 g1 s)
          · exact hl (h.1 a ha l l16 _ l1 g1 s)
      · by_cases e : u = v
        · rw [e]
          have r : rn_E R l l := h.2.1 l l16 l l16 (hE.2.1 l l16)
          rcases lv with lv | lv
          · rw [← lv]; exact Or.inl (Or.inr r)
          · rw [← lv]; exact Or.inr (Or.inr r)
        · rcases a3 u (by omega) with g | g
          · exact Or.inl (Or.inl g)
          · exact Or.inr (Or.inl g)
theorem rn_clo_yes {n : Nat} {E R : Nat → Nat} (hn : n ≤ 8) (hE : rn_good n E) (h : rn_clo 16 E R) (hc : ∀ v, v < n → ¬ (rn_E R (2 * v) (2 * v + 1) ∧ rn_E R (2 * v + 1) (2 * v))) : ∃ f, rn_resp E f := by
  obtain ⟨A, a1, a2, a3⟩ := rn_clo_A hn hE h hc n (Nat.le_refl n)
  have key : ∀ p, p < 2 * n → (rn_lit (fun u => @decide (A (2 * u + 1)) (Classical.propDecidable _)) p ↔ A p) := by
    intro p hp
    unfold rn_lit
    have xe := rn_xe (p / 2) (by omega)
    rcases Nat.mod_two_eq_zero_or_one p with e | e
    · have ep : p = 2 * (p / 2) := by omega
      rw [e]
      show @decide (A (2 * (p / 2) + 1)) (Classical.propDecidable _) = false ↔ A p
      rw [@decide_eq_false_iff_not _ (Classical.propDecidable _)]
      constructor
      · intro g
        rcases a3 (p / 2) (by omega) with k | k
        · rw [ep]; exact k
        · exact absurd k g
      · intro g k
        rw [ep] at g
        have := a2 _ (by omega) g
        rw [xe.1] at this
        exact this k
    · have ep : p = 2 * (p / 2) + 1 := by omega
      rw [e]
      show @decide (A (2 * (p / 2) + 1)) (Classical.propDecidable _) = true ↔ A p
      rw [@decide_eq_true_iff _ (Classical.propDecidable _), ← ep]
  refine ⟨fun u => @decide (A (2 * u + 1)) (Classical.propDecidable _), fun p hp q hq e l => ?_⟩
  rcases hE.2.2.2 p hp q hq e with g | ⟨g1, g2⟩
  · rw [← g]; exact l
  · exact (key q g2).mpr (a1 p hp q hq ((key p g1).mp l) (h.2.1 p hp q hq e))
end
section
/-! part 5: solutions as numbers: least, greatest, next -/
theorem rn_bits_hi {n v k num : Nat} (hk : k < 2 ^ n) (hm : num < 2 ^ n) (h : ∀ u, v ≤ u → u < n → k.testBit u = num.testBit u) : k / 2 ^ v = num / 2 ^ v := by
  apply Nat.eq_of_testBit_eq
  intro i
  rw [Nat.testBit_div_two_pow, Nat.testBit_div_two_pow]
  rcases Nat.lt_or_ge (i + v) n with z | z
  · exact h (i + v) (by omega) z
  · rw [Nat.testBit_lt_two_pow (Nat.lt_of_lt_of_le hk (Nat.pow_le_pow_right (by omega) z)), Nat.testBit_lt_two_pow (Nat.lt_of_lt_of_le hm (Nat.pow_le_pow_right (by omega) z))]
/-- k by its upper part, its bit v and the rest -/
theorem rn_bits_at (k v : Nat) : k = 2 ^ (v + 1) * (k / 2 ^ (v + 1)) + 2 ^ v * (k.testBit v).toNat + k % 2 ^ v := by
  rw [Nat.toNat_testBit]
  have h1 := Nat.div_add_mod k (2 ^ v)
  have h2 := Nat.div_add_mod (k / 2 ^ v) 2
  have h3 : k / 2 ^ (v + 1) = k / 2 ^ v / 2 := by rw [Nat.pow_succ, Nat.div_div_eq_div_mul]
  rw [h3, Nat.pow_succ, Nat.mul_assoc, ← Nat.mul_add, h2, h1]
def rn_exi (w : Bool) (n v num : Nat) (Q0 Q : (Nat → Bool) → Prop) : Prop :=
  (∃ f, Q f) ∧ (∀ f, Q f → Q0 f) ∧ (∀ f, Q f → ∀ u, v ≤ u → u < n → f u = num.testBit u) ∧ (num < 2 ^ n ∧ num % 2 ^ v = 0) ∧
  (∀ k, k < 2 ^ n → Q0 (fun i => k.testBit i) → Q (fun i => k.testBit i) ∨ (w = true ∧ k < num) ∨ (w = false ∧ num + 2 ^ v ≤ k))
theorem rn_exi_0 {w : Bool} {n : Nat} {Q : (Nat → Bool) → Prop} (h : ∃ f, Q f) : rn_exi w n n 0 Q Q :=
  ⟨h, fun f q => q, fun f _ u h1 h2 => absurd h1 (by omega), ⟨Nat.two_pow_pos n, Nat.zero_mod _⟩, fun k _ q => Or.inl q⟩
theorem rn_exi_n {w : Bool} {n num : Nat} {Q0 Q : (Nat → Bool) → Prop} (hc : ∀ f g, (∀ v, v < n → f v = g v) → Q f → Q g) (h : rn_exi w n 0 num Q0 Q) : num < 2 ^ n ∧ Q0 (fun i => num.testBit i) ∧ ∀ k, k < 2 ^ n → Q0 (fun i => k.testBit i) → (w = true → k ≤ num) ∧ (w = false → num ≤ k) := by
  obtain ⟨⟨f, hf⟩, h2, h3, h4, h5⟩ := h
  refine ⟨h4.1, h2 _ (hc f _ (fun v hv => h3 f hf v (Nat.zero_le v) hv) hf), fun k hk q => ?_⟩
  rcases h5 k hk q with e | ⟨e1, e2⟩ | ⟨e1, e2⟩
  · have := rn_numeq hk h4.1 (fun v hv => h3 _ e v (Nat.zero_le v) hv)
    exact ⟨fun _ => by omega, fun _ => by omega⟩
  · exact ⟨fun _ => by omega, fun g => absurd (e1.symm.trans g) (by decide)⟩
  · exact ⟨fun g => absurd (e1.symm.trans g) (by decide), fun _ => by omega⟩
theorem rn_exi_s {w b : Bool} {n v num : Nat} {Q0 Q Q' : (Nat → Bool) → Prop} (hv : v < n) (h : rn_exi w n (v + 1) num Q0 Q) (hQ : ∀ f, Q' f ↔ Q f ∧ f v = b) (hb : ∃ f, Q f ∧ f v = b) (hw : b ≠ w → ∀ f, Q f → f v = b) : rn_exi w n v (num + b.toNat * 2 ^ v) Q0 Q' := by
  obtain ⟨h1, h2, h3, ⟨h4, h4'⟩, h5⟩ := h
  obtain ⟨a, ha⟩ : ∃ a, num = 2 ^ (v + 1) * a := ⟨num / 2 ^ (v + 1), by have := Nat.div_add_mod num (2 ^ (v + 1)); omega⟩
  have hp : 2 ^ (v + 1) = 2 * 2 ^ v := by rw [Nat.pow_succ, Nat.mul_comm]
  have hpos := Nat.two_pow_pos v
  have hbl : b.toNat * 2 ^ v < 2 ^ (v + 1) := by
    cases b
    · rw [hp]; show 0 * 2 ^ v < _; omega
    · rw [hp]; show 1 * 2 ^ v < _; omega
  refine ⟨?_, fun f q => h2 f ((hQ f).mp q).1, fun f q u hu hun => ?_, ⟨?_, ?_⟩, fun k hk q => ?_⟩
  · obtain ⟨f, q1, q2⟩ := hb
    exact ⟨f, (hQ f).mpr ⟨q1, q2⟩⟩
  · have q' := (hQ f).mp q
    rw [ha, Nat.testBit_two_pow_mul_add a hbl]
    by_cases e : u = v
    · subst e
      rw [if_pos (by omega), q'.2]
      cases b
      · show false = Nat.testBit (0 * 2 ^ u) u
        rw [Nat.zero_mul, Nat.zero_testBit]
      · show true = Nat.testBit (1 * 2 ^ u) u
        rw [Nat.one_mul, Nat.testBit_two_pow_self]
    · rw [if_neg (by omega), h3 f q'.1 u (by omega) hun, ha, Nat.testBit_two_pow_mul, decide_eq_true (show u ≥ v + 1 by omega), Bool.true_and]
  · have hd : 2 ^ n = 2 ^ (v + 1) * 2 ^ (n - (v + 1)) := by rw [← Nat.pow_add, show v + 1 + (n - (v + 1)) = n by omega]
    rw [hd, ha] at h4
    have h6 : a < 2 ^ (n - (v + 1)) := Nat.lt_of_mul_lt_mul_left h4
    rw [hd, ha]
    calc 2 ^ (v + 1) * a + b.toNat * 2 ^ v < 2 ^ (v + 1) * a + 2 ^ (v + 1) := by omega
      _ = 2 ^ (v + 1) * (a + 1) := by rw [Nat.mul_succ]
      _ ≤ 2 ^ (v + 1) * 2 ^ (n - (v + 1)) := Nat.mul_le_mul_left _ h6
  · rw [ha, hp, Nat.mul_comm 2, Nat.mul_assoc, Nat.mul_comm b.toNat, ← Nat.mul_add, Nat.mul_mod_right]
  · have key : Q (fun i => k.testBit i) → k = num + 2 ^ v * (k.testBit v).toNat + k % 2 ^ v := by
      intro g
      have e := rn_bits_hi hk h4 (fun u h7 h8 => h3 _ g u h7 h8)
      have e2 := rn_bits_at k v
      have e3 := Nat.div_add_mod num (2 ^ (v + 1))
      rw [e] at e2
      omega
    rcases h5 k hk q with g | ⟨g1, g2⟩ | ⟨g1, g2⟩
    · have kk := key g
      have hm := Nat.mod_lt k hpos
      by_cases e : k.testBit v = b
      · exact Or.inl ((hQ _).mpr ⟨g, e⟩)
      · by_cases hbw : b = w
        · subst hbw
          cases b
          · have e' : k.testBit v = true := by
              cases g' : k.testBit v
              · exact absurd g' e
              · rfl
            refine Or.inr (Or.inr ⟨rfl, ?_⟩)
            rw [e'] at kk
            show num + 0 * 2 ^ v + 2 ^ v ≤ k
            have kk' : k = num + 2 ^ v * 1 + k % 2 ^ v := kk
            omega
          · have e' : k.testBit v = false := rn_bnot e
            refine Or.inr (Or.inl ⟨rfl, ?_⟩)
            rw [e'] at kk
            show k < num + 1 * 2 ^ v
            have kk' : k = num + 2 ^ v * 0 + k % 2 ^ v := kk
            omega
        · exact absurd (hw hbw _ g) e
    · exact Or.inr (Or.inl ⟨g1, by have := Nat.zero_le (b.toNat * 2 ^ v); omega⟩)
    · refine Or.inr (Or.inr ⟨g1, ?_⟩)
      rw [hp] at g2
      cases b
      · show num + 0 * 2 ^ v + 2 ^ v ≤ k
        omega
      · show num + 1 * 2 ^ v + 2 ^ v ≤ k
        omega
/-- the highest bit where two numbers differ -/
theorem rn_nx : ∀ b a : Nat, a < b → ∃ v, a.testBit v = false ∧ b.testBit v = true ∧ ∀ u, v < u → a.testBit u = b.testBit u := by
  intro b
  induction b using Nat.strongRecOn with
  | ind b ih =>
    intro a hab
    by_cases e : a / 2 < b / 2
    · obtain ⟨v, h1, h2, h3⟩ := ih (b / 2) (by omega) (a / 2) e
      refine ⟨v + 1, by rw [Nat.testBit_add_one]; exact h1, by rw [Nat.testBit_add_one]; exact h2, fun u hu => ?_⟩
      obtain ⟨w, rfl⟩ : ∃ w, u = w + 1 := ⟨u - 1, by omega⟩
      rw [Nat.testBit_add_one, Nat.testBit_add_one]
      exact h3 w (by omega)
    · have e' : a / 2 = b / 2 := by omega
      refine ⟨0, ?_, ?_, fun u hu => ?_⟩
      · rw [Nat.testBit_zero, decide_eq_false_iff_not]; omega
      · rw [Nat.testBit_zero, decide_eq_true_iff]; omega
      · obtain ⟨w, rfl⟩ : ∃ w, u = w + 1 := ⟨u - 1, by omega⟩
        rw [Nat.testBit_add_one, Nat.testBit_add_one, e']
theorem rn_ltb {x y i : Nat} (hx : x.testBit i = false) (hy : y.testBit i = true) (h : ∀ j, i < j → x.testBit j = y.testBit j) : x < y := by
  rcases Nat.lt_trichotomy x y with g | g | g
  · exact g
  · rw [g, hy] at hx
    exact absurd hx (by decide)
  · obtain ⟨v, h1, h2, h3⟩ := rn_nx x y g
    rcases Nat.lt_trichotomy v i with z | z | z
    · have := h3 i z
      rw [hx, hy] at this
      exact absurd this (by decide)
    · subst z
      rw [hx] at h2
      exact absurd h2 (by decide)
    · have := h v z
      rw [h1, h2] at this
      exact absurd this (by decide)
/-- above a: within the parts that share the upper bits -/
def rn_up (n a v : Nat) (f : Nat → Bool) : Prop := f v = true ∧ ∀ u, v < u → u < n → f u = a.testBit u
theorem rn_up_lt {n a v k : Nat} (hk : k < 2 ^ n) (ha : a < 2 ^ n) (hb : a.testBit v = false) (h : rn_up n a v (fun i => k.testBit i)) : a < k := by
  refine rn_ltb (i := v) hb h.1 (fun j hj => ?_)
  rcases Nat.lt_or_ge j n with z | z
  · exact (h.2 j hj z).symm
  · rw [Nat.testBit_lt_two_pow (Nat.lt_of_lt_of_le hk (Nat.pow_le_pow_right (by omega) z)), Nat.testBit_lt_two_pow (Nat.lt_of_lt_of_le ha (Nat.pow_le_pow_right (by omega) z))]
theorem rn_up_ex {n a k : Nat} (hk : k < 2 ^ n) (h : a < k) : ∃ v, v < n ∧ a.testBit v = false ∧ rn_up n a v (fun i => k.testBit i) := by
  obtain ⟨v, h1, h2, h3⟩ := rn_nx k a h
  refine ⟨v, ?_, h1, h2, fun u hu _ => (h3 u hu).symm⟩
  rcases Nat.lt_or_ge v n with z | z
  · exact z
  · rw [Nat.testBit_lt_two_pow (Nat.lt_of_lt_of_le hk (Nat.pow_le_pow_right (by omega) z))] at h2
    exact absurd h2 (by decide)
theorem rn_up_ord {n a v w k l : Nat} (hk : k < 2 ^ n) (hl : l < 2 ^ n) (hvw : v < w) (hw : w < n) (hb : a.testBit w = false) (h1 : rn_up n a v (fun i => k.testBit i)) (h2 : rn_up n a w (fun i => l.testBit i)) : k < l := by
  refine rn_ltb (i := w) ?_ h2.1 (fun j hj => ?_)
  · have := h1.2 w hvw hw
    rw [← hb]; exact this
  · rcases Nat.lt_or_ge j n with z | z
    · exact (h1.2 j (by omega) z).trans (h2.2 j hj z).symm
    · rw [Nat.testBit_lt_two_pow (Nat.lt_of_lt_of_le hk (Nat.pow_le_pow_right (by omega) z)), Nat.testBit_lt_two_pow (Nat.lt_of_lt_of_le hl (Nat.pow_le_pow_right (by omega) z))]
theorem rn_cnt_gap {P : Nat → Prop} {a b : Nat} (hab : a ≤ b) (h : ∀ j, a ≤ j → j < b → ¬ P j) : rn_cnt P b = rn_cnt P a := by
  induction b with
  | zero => rw [show a = 0 by omega]
  | succ b ih =>
    by_cases e : a = b + 1
    · rw [e]
    · rw [rn_cnt_f (h b (by omega) (by omega))]
      exact ih (by omega) (fun j h1 h2 => h j h1 (by omega))
theorem rn_cnt_mono {P : Nat → Prop} {a b : Nat} (hab : a ≤ b) : rn_cnt P a ≤ rn_cnt P b := by
  induction b with
  | zero => rw [show a = 0 by omega]; exact Nat.le_refl _
  | succ b ih =>
    by_cases e : a = b + 1
    · rw [e]; exact Nat.le_refl _
    · have := ih (by omega)
      by_cases hp : P b
      · rw [rn_cnt_t hp]; omega
      · rw [rn_cnt_f hp]; omega
end
section
/-! part 6: the small methods: netTraits, setDomains, fetch, keep, shadow, fitting -/
def rn_mk (T K : Nat) : Prop := (K.testBit 2 = true → rn_mc T) ∧ (K.testBit 3 = true → rn_jc T) ∧ (K.testBit 4 = true → rn_ma T) ∧ (K.testBit 5 = true → rn_xc T)
/-- the object's arrays against the picture: constraint c names relation R c with table C c over X c, Y c, Z c -/
def rn_core (n m : Nat) (K R C X Y Z : Nat → Nat) (a1 a2 a3 a4 a5 a6 a7 : Nat → Int32) : Prop :=
  (2 ≤ n ∧ n ≤ 8 ∧ m ≤ 20) ∧ (∀ r, r < 6 → a2 r = nI (K r) ∧ K r < 128) ∧ rn_vars n m X Y Z ∧
  (∀ c, c < m → R c < 6 ∧ C c < 256 ∧ a4 c = nI (R c) ∧ a1 (R c) = nI (C c) ∧ a5 c = nI (X c) ∧ a6 c = nI (Y c) ∧ a7 c = nI (Z c) ∧ ¬ a3 (R c) ≤ 0 ∧ rn_mk (C c) (K (R c)))
def rn_dm (n : Nat) (D : Nat → Nat) (a9 : Nat → Int32) : Prop := ∀ v, v < n → a9 v = nI (D v) ∧ D v < 4
theorem rn_fill {f s : Nat → Int32} {i : Nat} {x : Int32} (h : ∀ j, j < i → s j = f j) (hx : x = f i) : ∀ j, j < i + 1 → upd s i x j = f j := by
  intro j hj
  by_cases e : j = i
  · rw [e, pk_us, hx]
  · rw [pk_un e]
    exact h j (by omega)
theorem rn_netTraits {n m : Nat} {fo : Int32} {a1 a2 a3 a4 a5 a6 a7 a8 a9 a10 a11 a12 a13 a14 : Nat → Int32} {post : Int32 → Prop} {K : Nat → Nat} (hk : ∀ r, r < 6 → a2 r = nI (K r) ∧ K r < 128)
    (H : ∀ W, W < 128 → (∀ i, W.testBit i = true → ∀ r, r < 6 → ¬ a3 r ≤ 0 → (K r).testBit i = true) → post (nI W)) : wpX_netTraits post (nI n, nI m, -1, 0, fo, a1, a2, a3, a4, a5, a6, a7, a8, a9, a10, a11, a12, a13, a14) :=
  pk_loop (fun f i (s : Nat) => wX_netTraits_5 post (nI n) (nI m) (-1) 0 fo a1 a2 a3 a4 a5 a6 a7 a8 a9 a10 a11 a12 a13 a14 f (nI s) (nI i)) (fun i s => s < 128 ∧ ∀ j, s.testBit j = true → ∀ r, r < i → ¬ a3 r ≤ 0 → (K r).testBit j = true) 6 0 127 (by omega) ⟨by omega, fun j _ r hr => absurd hr (by omega)⟩
    (fun f s h => pk_le 6 6 (fun _ => H s h.1 h.2) (fun z => absurd z (by omega)))
    (fun f i s hi h hw => pk_le 6 i (fun z => absurd z (by omega)) (fun _ => ⟨pk_in i 6 hi, by
      rw [nI_clamp (show i < 2 ^ 31 by omega)]
      refine br_c (fun g => nm_r (nI_1 i) (hw s ⟨h.1, fun j hj r hr g' => ?_⟩)) (fun g => ⟨pk_in i 6 hi, nm_r (e' := nI (s &&& K i)) ?_ (nm_r (nI_1 i) (hw (s &&& K i) ⟨?_, fun j hj r hr g' => ?_⟩))⟩)
      · by_cases e : r = i
        · rw [e] at g'; exact absurd g g'
        · exact h.2 j hj r (by omega) g'
      · rw [(hk i hi).1, rn_and]
      · exact Nat.lt_of_le_of_lt Nat.and_le_left h.1
      · rw [Nat.testBit_and, Bool.and_eq_true] at hj
        by_cases e : r = i
        · rw [e]; exact hj.2
        · exact h.2 j hj.1 r (by omega) g'⟩))
/-- the domains that the assumptions leave -/
def rn_as (n : Nat) (D : Nat → Nat) (a8 : Nat → Int32) : Prop := ∀ v, v < n → D v < 4 ∧ (a8 v = 2 → D v = 3) ∧ (¬ a8 v = 2 → (1 : Int32) <<< (a8 v &&& 31) = nI (D v))
theorem rn_setDomains {n m : Nat} {fo : Int32} {a1 a2 a3 a4 a5 a6 a7 a8 a9 a10 a11 a12 a13 a14 : Nat → Int32} {post : St2 → Prop} {D : Nat → Nat} (hn : n ≤ 8) (hD : rn_as n D a8) (H : ∀ b9, rn_dm n D b9 → post (nI n, nI m, -1, 0, fo, a1, a2, a3, a4, a5, a6, a7, a8, b9, a10, a11, a12, a13, a14)) : wpX_setDomains post (nI n, nI m, -1, 0, fo, a1, a2, a3, a4, a5, a6, a7, a8, a9, a10, a11, a12, a13, a14) :=
  pk_loop (fun f i s => wX_setDomains_2 post (nI n) (nI m) (-1) 0 fo f (nI i) a1 a2 a3 a4 a5 a6 a7 a8 s a10 a11 a12 a13 a14) (fun i s => ∀ v, v < i → s v = nI (D v)) n 0 a9 (by omega) (fun v hv => absurd hv (by omega))
    (fun f s h => pk_le n n (fun _ => H s (fun v hv => ⟨h v hv, (hD v hv).1⟩)) (fun z => absurd z (by omega)))
    (fun f i s hi h hw => pk_le n i (fun z => absurd z (by omega)) (fun _ => ⟨pk_in i 8 (by omega), by
      rw [nI_clamp (show i < 2 ^ 31 by omega)]
      refine br_c (fun g => ⟨pk_in i 8 (by omega), nm_e (nm_r (nI_1 i) (hw _ (rn_fill (f := fun v => nI (D v)) h ?_)))⟩) (fun g => ⟨pk_in i 8 (by omega), pk_in i 8 (by omega), nm_e (nm_r (nI_1 i) (hw _ (rn_fill (f := fun v => nI (D v)) h ?_)))⟩)
      · show (3 : Int32) = nI (D i)
        rw [(hD i hi).2.1 g]
        rfl
      · exact (hD i hi).2.2 g⟩))
theorem rn_fetch {n m : Nat} {fo : Int32} {a1 a2 a3 a4 a5 a6 a7 a8 a9 a10 a11 a12 a13 a14 : Nat → Int32} {post : St2 → Prop} {p : Nat} (hp : p + 8 ≤ 72) (H : ∀ b9, (∀ j, j < 8 → b9 j = a10 (p + j)) → post (nI n, nI m, -1, 0, fo, a1, a2, a3, a4, a5, a6, a7, a8, b9, a10, a11, a12, a13, a14)) : wpX_fetch post (nI n, nI m, -1, 0, fo, a1, a2, a3, a4, a5, a6, a7, a8, a9, a10, a11, a12, a13, a14) (nI p) :=
  pk_loop (fun f i s => wX_fetch_2 post (nI p) (nI n) (nI m) (-1) 0 fo f (nI i) a1 a2 a3 a4 a5 a6 a7 a8 s a10 a11 a12 a13 a14) (fun i s => ∀ j, j < i → s j = a10 (p + j)) 8 0 a9 (by omega) (fun v hv => absurd hv (by omega))
    (fun f s h => pk_le 8 8 (fun _ => H s h) (fun z => absurd z (by omega)))
    (fun f i s hi h hw => pk_le 8 i (fun z => absurd z (by omega)) (fun _ => ⟨pk_in (p + i) 72 (by omega) (nI_add p i), pk_in i 8 hi, by
      rw [nI_add, nI_clamp (show i < 2 ^ 31 by omega), nI_clamp (show p + i < 2 ^ 31 by omega)]
      exact nm_e (nm_r (nI_1 i) (hw _ (rn_fill (f := fun j => a10 (p + j)) h rfl)))⟩))
theorem rn_keep {n m : Nat} {fo : Int32} {a1 a2 a3 a4 a5 a6 a7 a8 a9 a10 a11 a12 a13 a14 : Nat → Int32} {post : St2 → Prop} {p : Nat} (hp : p + 8 ≤ 72) (H : ∀ b10, (∀ j, j < 8 → b10 (p + j) = a9 j) → (∀ j, j < p ∨ p + 8 ≤ j → b10 j = a10 j) → post (nI n, nI m, -1, 0, fo, a1, a2, a3, a4, a5, a6, a7, a8, a9, b10, a11, a12, a13, a14)) : wpX_keep post (nI n, nI m, -1, 0, fo, a1, a2, a3, a4, a5, a6, a7, a8, a9, a10, a11, a12, a13, a14) (nI p) :=
  pk_loop (fun f i s => wX_keep_2 post (nI p) (nI n) (nI m) (-1) 0 fo f (nI i) a1 a2 a3 a4 a5 a6 a7 a8 a9 s a11 a12 a13 a14) (fun i s => (∀ j, j < i → s (p + j) = a9 j) ∧ ∀ j, j < p ∨ p + 8 ≤ j → s j = a10 j) 8 0 a10 (by omega) ⟨fun v hv => absurd hv (by omega), fun j _ => rfl⟩
    (fun f s h => pk_le 8 8 (fun _ => H s h.1 h.2) (fun z => absurd z (by omega)))
    (fun f i s hi h hw => pk_le 8 i (fun z => absurd z (by omega)) (fun _ => ⟨pk_in i 8 hi, pk_in (p + i) 72 (by omega) (nI_add p i), by
      rw [nI_add, nI_clamp (show i < 2 ^ 31 by omega), nI_clamp (show p + i < 2 ^ 31 by omega)]
      refine nm_e (nm_r (nI_1 i) (hw _ ⟨fun j hj => ?_, fun j hj => ?_⟩))
      · by_cases e : j = i
        · rw [e, pk_us]
        · rw [pk_un (by omega)]; exact h.1 j (by omega)
      · rw [pk_un (by omega)]; exact h.2 j hj⟩))
/-- the values of the triples at a place -/
def rn_shd (F w S : Nat) : Prop := S < 4 ∧ ∀ b : Bool, (S.testBit b.toNat = true ↔ ∃ t, t < 8 ∧ F.testBit t = true ∧ decide (t &&& w = 0) = !b)
theorem rn_s4 : ∀ S, S < 4 → ∀ b c : Bool, (S ||| 2 ^ c.toNat) < 4 ∧ ((S ||| 2 ^ c.toNat).testBit b.toNat = true ↔ S.testBit b.toNat = true ∨ b = c) := by decide
theorem rn_shadow {post : Int32 → Prop} {F w : Nat} (hF : F < 256) (hw8 : w < 8) (H : ∀ S, rn_shd F w S → post (nI S)) : wpX_shadow post () (nI F) (nI w) :=
  pk_loop (fun f i (s : Nat) => wX_shadow_4 post (nI F) (nI w) f (nI s) (nI i)) (fun i s => s < 4 ∧ ∀ b : Bool, (s.testBit b.toNat = true ↔ ∃ t, t < i ∧ F.testBit t = true ∧ decide (t &&& w = 0) = !b)) 8 0 0 (by omega) ⟨by omega, fun b => ⟨fun g => absurd g (by rw [Nat.zero_testBit]; decide), fun ⟨t, ht, _⟩ => absurd ht (by omega)⟩⟩
    (fun f s h => pk_le 8 8 (fun _ => H s h) (fun z => absurd z (by omega)))
    (fun f i s hi h hw => pk_le 8 i (fun z => absurd z (by omega)) (fun _ => by
      have grow : ∀ c : Bool, F.testBit i = true → decide (i &&& w = 0) = !c → (s ||| 2 ^ c.toNat) < 4 ∧ ∀ b : Bool, ((s ||| 2 ^ c.toNat).testBit b.toNat = true ↔ ∃ t, t < i + 1 ∧ F.testBit t = true ∧ decide (t &&& w = 0) = !b) := by
        intro c g1 g2
        refine ⟨(rn_s4 s h.1 true c).1, fun b => ?_⟩
        rw [(rn_s4 s h.1 b c).2, h.2 b]
        constructor
        · rintro (⟨t, h1, h2, h3⟩ | e)
          · exact ⟨t, by omega, h2, h3⟩
          · exact ⟨i, by omega, g1, by rw [e]; exact g2⟩
        · rintro ⟨t, h1, h2, h3⟩
          by_cases e : t = i
          · right
            rw [e, g2] at h3
            revert h3
            cases b <;> cases c <;> decide
          · exact Or.inl ⟨t, by omega, h2, h3⟩
      refine rn_hs F i (by omega) (by omega) (fun g => ?_) (fun g => nm_r (nI_1 i) (hw s ⟨h.1, fun b => ?_⟩))
      · refine pk_eq (i &&& w) 0 (fun g0 => nm_r (e' := nI (s ||| 1)) (rn_or s 1) (nm_r (nI_1 i) (hw (s ||| 1) ?_))) (fun g0 => nm_r (e' := nI (s ||| 2)) (rn_or s 2) (nm_r (nI_1 i) (hw (s ||| 2) ?_))) (rn_and i w) rfl (Nat.lt_of_le_of_lt Nat.and_le_left (by omega)) (by omega)
        · exact grow false g (by rw [g0]; rfl)
        · exact grow true g (by rw [decide_eq_false g0]; rfl)
      · rw [h.2 b]
        constructor
        · rintro ⟨t, h1, h2, h3⟩
          exact ⟨t, by omega, h2, h3⟩
        · rintro ⟨t, h1, h2, h3⟩
          by_cases e : t = i
          · rw [e, g] at h2
            exact absurd h2 (by decide)
          · exact ⟨t, by omega, h2, h3⟩))
end
section
/-! part 7: fitting, narrow, filter -/
theorem rn_t8 : ∀ t, t < 8 → nI t >>> ((2 : Int32) &&& 31) = nI (t / 4) ∧ (nI t >>> ((1 : Int32) &&& 31)) &&& 1 = nI (t / 2 % 2) ∧ nI t &&& 1 = nI (t % 2) := by decide +kernel
theorem rn_s8 : ∀ t, t < 8 → (1 : Int32) <<< (nI t &&& 31) = nI (2 ^ t) := by decide +kernel
theorem rn_f160 {n m : Nat} {fo : Int32} {a1 a2 a3 a4 a5 a6 a7 a8 a9 a10 a11 a12 a13 a14 : Nat → Int32} {post : Int32 → Prop} {J : Int32 → Int32 → Prop} {x2 x3 x4 x5 x11 : Int32} {F t : Nat} (h : J (nI F) (nI (t + 1))) : wX_fitting_160 post J x2 x3 x4 x5 (nI F) (nI t) x11 (nI n) (nI m) (-1) 0 fo a1 a2 a3 a4 a5 a6 a7 a8 a9 a10 a11 a12 a13 a14 :=
  ⟨fun _ => nm_r (nI_1 t) h, fun _ => br_t rfl (nm_r (nI_1 t) h)⟩
theorem rn_f161 {n m : Nat} {fo : Int32} {a1 a2 a3 a4 a5 a6 a7 a8 a9 a10 a11 a12 a13 a14 : Nat → Int32} {post : Int32 → Prop} {J : Int32 → Int32 → Prop} {x2 x3 x4 x11 : Int32} {T F t : Nat} {one : Bool} (hx : x11 = nI one.toNat) (ht : t < 8) (hT : T < 256) (h1 : one = true → T.testBit t = true → J (nI (F ||| 2 ^ t)) (nI (t + 1))) (h0 : ¬ (one = true ∧ T.testBit t = true) → J (nI F) (nI (t + 1))) : wX_fitting_161 post J x2 x3 x4 (nI T) (nI F) (nI t) x11 1 (nI n) (nI m) (-1) 0 fo a1 a2 a3 a4 a5 a6 a7 a8 a9 a10 a11 a12 a13 a14 := by
  subst hx
  cases one
  · exact br_t rfl (nm_r (nI_1 t) (h0 (fun g => absurd g.1 (by decide))))
  · refine br_f (by decide) (br_f (by decide) (rn_hs T t (by omega) (by omega) (fun g => nm_r (e' := nI (F ||| 2 ^ t)) ?_ (nm_r (nI_1 t) (h1 rfl g))) (fun g => nm_r (nI_1 t) (h0 (fun k => absurd (k.2.symm.trans g) (by decide))))))
    rw [rn_s8 t ht, rn_or]
theorem rn_f111 {n m : Nat} {fo : Int32} {a1 a2 a3 a4 a5 a6 a7 a8 a9 a10 a11 a12 a13 a14 : Nat → Int32} {post : Int32 → Prop} {J : Int32 → Int32 → Prop} {x11 : Int32} {x y z T F t a b d : Nat} {D : Nat → Nat} {one : Bool} (hx11 : x11 = nI one.toNat) (hx : x < 8) (hy : y < 8) (hz : z < 8) (dx : a9 x = nI (D x) ∧ D x < 4) (dy : a9 y = nI (D y) ∧ D y < 4) (dz : a9 z = nI (D z) ∧ D z < 4) (ha : a < 2) (hb : b < 2) (hd : d < 2) (ht : t < 8) (hT : T < 256)
    (h1 : one = true → (D x).testBit a = true → (D y).testBit b = true → (D z).testBit d = true → T.testBit t = true → J (nI (F ||| 2 ^ t)) (nI (t + 1)))
    (h0 : ¬ (one = true ∧ (D x).testBit a = true ∧ (D y).testBit b = true ∧ (D z).testBit d = true ∧ T.testBit t = true) → J (nI F) (nI (t + 1))) :
    wX_fitting_111 post J (nI x) (nI y) (nI z) (nI T) (nI F) (nI t) (nI a) (nI b) (nI d) x11 (nI n) (nI m) (-1) 0 fo a1 a2 a3 a4 a5 a6 a7 a8 a9 a10 a11 a12 a13 a14 := by
  have ex : a9 (nI x).toNatClampNeg = nI (D x) := by rw [nI_clamp (by omega)]; exact dx.1
  have ey : a9 (nI y).toNatClampNeg = nI (D y) := by rw [nI_clamp (by omega)]; exact dy.1
  have ez : a9 (nI z).toNatClampNeg = nI (D z) := by rw [nI_clamp (by omega)]; exact dz.1
  have nb : ∀ {u : Bool}, u = false → ¬ u = true := fun h g => absurd (h.symm.trans g) (by decide)
  refine ⟨pk_in x 8 hx, rn_hs (D x) a (by omega) (by omega) (fun ga => ⟨pk_in y 8 hy, rn_hs (D y) b (by omega) (by omega) (fun gb => ⟨pk_in z 8 hz, rn_hs (D z) d (by omega) (by omega) (fun gd => ?_) (fun gd => rn_f160 (h0 (fun k => nb gd k.2.2.2.1))) ez⟩) (fun gb => rn_f160 (h0 (fun k => nb gb k.2.2.1))) ey⟩) (fun ga => rn_f160 (h0 (fun k => nb ga k.2.1))) ex⟩
  exact rn_f161 hx11 ht hT (fun o g => h1 o ga gb gd g) (fun k => h0 (fun q => k ⟨q.1, q.2.2.2.2⟩))
def rn_fitN (x y z T : Nat) (D : Nat → Nat) (t : Nat) : Prop := ((x = y → t / 4 = t / 2 % 2) ∧ (x = z → t / 4 = t % 2) ∧ (y = z → t / 2 % 2 = t % 2)) ∧ (D x).testBit (t / 4) = true ∧ (D y).testBit (t / 2 % 2) = true ∧ (D z).testBit (t % 2) = true ∧ T.testBit t = true
theorem rn_tn : ∀ p q : Bool, p.toNat = q.toNat ↔ p = q := by decide
theorem rn_fitN_i {x y z T : Nat} {D : Nat → Nat} {p q r : Bool} : rn_fitN x y z T D (rn_ix p q r) ↔ rn_fit x y z T D p q r := by
  unfold rn_fitN rn_fit
  rw [(rn_ix_a p q r).1, (rn_ix_a p q r).2.1, (rn_ix_a p q r).2.2, rn_tn, rn_tn, rn_tn]
  exact ⟨fun h => ⟨h.1.1, h.1.2.1, h.1.2.2, h.2⟩, fun h => ⟨⟨h.1, h.2.1, h.2.2.1⟩, h.2.2.2⟩⟩
theorem rn_grow {P : Nat → Prop} {s i : Nat} (hi : i < 8) (h : s < 256 ∧ ∀ t, t < 8 → (s.testBit t = true ↔ t < i ∧ P t)) (hp : P i) : (s ||| 2 ^ i) < 256 ∧ ∀ t, t < 8 → ((s ||| 2 ^ i).testBit t = true ↔ t < i + 1 ∧ P t) := by
  refine ⟨Nat.or_lt_two_pow (n := 8) h.1 (Nat.pow_lt_pow_right (by omega) hi), fun t ht => ?_⟩
  rw [Nat.testBit_or, Nat.testBit_two_pow, Bool.or_eq_true, decide_eq_true_iff, h.2 t ht]
  constructor
  · rintro (⟨h1, h2⟩ | e)
    · exact ⟨by omega, h2⟩
    · rw [← e]; exact ⟨by omega, hp⟩
  · rintro ⟨h1, h2⟩
    by_cases e : t = i
    · exact Or.inr e.symm
    · exact Or.inl ⟨by omega, h2⟩
theorem rn_stay {P : Nat → Prop} {s i : Nat} (h : s < 256 ∧ ∀ t, t < 8 → (s.testBit t = true ↔ t < i ∧ P t)) (hp : ¬ P i) : s < 256 ∧ ∀ t, t < 8 → (s.testBit t = true ↔ t < i + 1 ∧ P t) := by
  refine ⟨h.1, fun t ht => ?_⟩
  rw [h.2 t ht]
  constructor
  · rintro ⟨h1, h2⟩
    exact ⟨by omega, h2⟩
  · rintro ⟨h1, h2⟩
    by_cases e : t = i
    · rw [e] at h2; exact absurd h2 hp
    · exact ⟨by omega, h2⟩
theorem rn_f41 {n m : Nat} {fo : Int32} {a1 a2 a3 a4 a5 a6 a7 a8 a9 a10 a11 a12 a13 a14 : Nat → Int32} {post : Int32 → Prop} {x y z T : Nat} {D : Nat → Nat} (hx : x < 8) (hy : y < 8) (hz : z < 8) (dx : a9 x = nI (D x) ∧ D x < 4) (dy : a9 y = nI (D y) ∧ D y < 4) (dz : a9 z = nI (D z) ∧ D z < 4) (hT : T < 256)
    (H : ∀ F, F < 256 → (∀ t, t < 8 → (F.testBit t = true ↔ rn_fitN x y z T D t)) → post (nI F)) : ∃ f, wX_fitting_41 post (nI x) (nI y) (nI z) (nI T) (nI n) (nI m) (-1) 0 fo a1 a2 a3 a4 a5 a6 a7 a8 a9 a10 a11 a12 a13 a14 f 0 0 :=
  pk_loop (fun f i (s : Nat) => wX_fitting_41 post (nI x) (nI y) (nI z) (nI T) (nI n) (nI m) (-1) 0 fo a1 a2 a3 a4 a5 a6 a7 a8 a9 a10 a11 a12 a13 a14 f (nI s) (nI i)) (fun i s => s < 256 ∧ ∀ t, t < 8 → (s.testBit t = true ↔ t < i ∧ rn_fitN x y z T D t)) 8 0 0 (by omega) ⟨by omega, fun t _ => ⟨fun g => absurd g (by rw [Nat.zero_testBit]; decide), fun g => absurd g.1 (by omega)⟩⟩
    (fun f s h => pk_le 8 8 (fun _ => H s h.1 (fun t ht => ⟨fun g => ((h.2 t ht).mp g).2, fun g => (h.2 t ht).mpr ⟨ht, g⟩⟩)) (fun z => absurd z (by omega)))
    (fun f i s hi h hw => pk_le 8 i (fun z => absurd z (by omega)) (fun _ => by
      obtain ⟨e1, e2, e3⟩ := rn_t8 i hi
      refine nm_r e1 (nm_r e2 (nm_r e3 ?_))
      have G1 : rn_fitN x y z T D i → wX_fitting_41 post (nI x) (nI y) (nI z) (nI T) (nI n) (nI m) (-1) 0 fo a1 a2 a3 a4 a5 a6 a7 a8 a9 a10 a11 a12 a13 a14 f (nI (s ||| 2 ^ i)) (nI (i + 1)) := fun g => hw _ (rn_grow hi h g)
      have G0 : ¬ rn_fitN x y z T D i → wX_fitting_41 post (nI x) (nI y) (nI z) (nI T) (nI n) (nI m) (-1) 0 fo a1 a2 a3 a4 a5 a6 a7 a8 a9 a10 a11 a12 a13 a14 f (nI s) (nI (i + 1)) := fun g => hw _ (rn_stay h g)
      have q4 : i / 4 < 2 := by omega
      have b2 : i / 2 % 2 < 2 := by omega
      have c2 : i % 2 < 2 := by omega
      have g110 : ¬ ((x = y → i / 4 = i / 2 % 2) ∧ (x = z → i / 4 = i % 2) ∧ (y = z → i / 2 % 2 = i % 2)) → wX_fitting_110 post (wX_fitting_41 post (nI x) (nI y) (nI z) (nI T) (nI n) (nI m) (-1) 0 fo a1 a2 a3 a4 a5 a6 a7 a8 a9 a10 a11 a12 a13 a14 f) (nI x) (nI y) (nI z) (nI T) (nI s) (nI i) (nI (i / 4)) (nI (i / 2 % 2)) (nI (i % 2)) (nI n) (nI m) (-1) 0 fo a1 a2 a3 a4 a5 a6 a7 a8 a9 a10 a11 a12 a13 a14 :=
        fun k => rn_f111 (one := false) rfl hx hy hz dx dy dz q4 b2 c2 hi hT (fun o => absurd o (by decide)) (fun _ => G0 (fun q => k q.1))
      have g106 : (x = y → i / 4 = i / 2 % 2) → (x = z → i / 4 = i % 2) → (y = z → i / 2 % 2 = i % 2) → wX_fitting_106 post (wX_fitting_41 post (nI x) (nI y) (nI z) (nI T) (nI n) (nI m) (-1) 0 fo a1 a2 a3 a4 a5 a6 a7 a8 a9 a10 a11 a12 a13 a14 f) (nI x) (nI y) (nI z) (nI T) (nI s) (nI i) (nI (i / 4)) (nI (i / 2 % 2)) (nI (i % 2)) (nI n) (nI m) (-1) 0 fo a1 a2 a3 a4 a5 a6 a7 a8 a9 a10 a11 a12 a13 a14 :=
        fun k1 k2 k3 => rn_f111 (one := true) rfl hx hy hz dx dy dz q4 b2 c2 hi hT (fun _ q1 q2 q3 q4 => G1 ⟨⟨k1, k2, k3⟩, q1, q2, q3, q4⟩) (fun k => G0 (fun q => k ⟨rfl, q.2⟩))
      have g93 : (x = y → i / 4 = i / 2 % 2) → (x = z → i / 4 = i % 2) → wX_fitting_93 post (wX_fitting_41 post (nI x) (nI y) (nI z) (nI T) (nI n) (nI m) (-1) 0 fo a1 a2 a3 a4 a5 a6 a7 a8 a9 a10 a11 a12 a13 a14 f) (nI x) (nI y) (nI z) (nI T) (nI s) (nI i) (nI (i / 4)) (nI (i / 2 % 2)) (nI (i % 2)) (nI n) (nI m) (-1) 0 fo a1 a2 a3 a4 a5 a6 a7 a8 a9 a10 a11 a12 a13 a14 :=
        fun k1 k2 => pk_eq y z (fun eyz => pk_eq (i / 2 % 2) (i % 2) (fun e => g106 k1 k2 (fun _ => e)) (fun ne => g110 (fun q => ne (q.2.2 eyz)))) (fun nyz => g106 k1 k2 (fun e => absurd e nyz))
      have g80 : (x = y → i / 4 = i / 2 % 2) → wX_fitting_80 post (wX_fitting_41 post (nI x) (nI y) (nI z) (nI T) (nI n) (nI m) (-1) 0 fo a1 a2 a3 a4 a5 a6 a7 a8 a9 a10 a11 a12 a13 a14 f) (nI x) (nI y) (nI z) (nI T) (nI s) (nI i) (nI (i / 4)) (nI (i / 2 % 2)) (nI (i % 2)) (nI n) (nI m) (-1) 0 fo a1 a2 a3 a4 a5 a6 a7 a8 a9 a10 a11 a12 a13 a14 :=
        fun k1 => pk_eq x z (fun exz => pk_eq (i / 4) (i % 2) (fun e => g93 k1 (fun _ => e)) (fun ne => g110 (fun q => ne (q.2.1 exz)))) (fun nxz => g93 k1 (fun e => absurd e nxz))
      exact pk_eq x y (fun exy => pk_eq (i / 4) (i / 2 % 2) (fun e => g80 (fun _ => e)) (fun ne => g110 (fun q => ne (q.1 exy)))) (fun nxy => g80 (fun e => absurd e nxy))))
theorem rn_fitting {n m : Nat} {fo : Int32} {a1 a2 a3 a4 a5 a6 a7 a8 a9 a10 a11 a12 a13 a14 : Nat → Int32} {post : Int32 → Prop} {K R C X Y Z D : Nat → Nat} {c : Nat} (hC : rn_core n m K R C X Y Z a1 a2 a3 a4 a5 a6 a7) (hD : rn_dm n D a9) (hc : c < m)
    (H : ∀ F, F < 256 → (∀ p q r : Bool, F.testBit (rn_ix p q r) = true ↔ rn_fit (X c) (Y c) (Z c) (C c) D p q r) → post (nI F)) : wpX_fitting post (nI n, nI m, -1, 0, fo, a1, a2, a3, a4, a5, a6, a7, a8, a9, a10, a11, a12, a13, a14) (nI c) := by
  obtain ⟨⟨n2, n8, m20⟩, _, hv, hcs⟩ := hC
  obtain ⟨vx, vy, vz⟩ := hv c hc
  obtain ⟨r6, c256, e4, e1, e5, e6, e7, _, _⟩ := hcs c hc
  have cc : (nI c).toNatClampNeg = c := nI_clamp (by omega)
  have c20 : vp_in (nI c) 20 := pk_in c 20 (by omega)
  refine ⟨c20, nm_r (e' := nI (X c)) (by rw [cc]; exact e5) ⟨c20, nm_r (e' := nI (Y c)) (by rw [cc]; exact e6) ⟨c20, nm_r (e' := nI (Z c)) (by rw [cc]; exact e7) ⟨c20, by rw [cc, e4]; exact vp_in_nI r6 (by omega), nm_r (e' := nI (C c)) (by rw [cc, e4, nI_clamp (by omega)]; exact e1) ?_⟩⟩⟩⟩
  exact rn_f41 (by omega) (by omega) (by omega) (hD _ vx) (hD _ vy) (hD _ vz) c256 (fun F h1 h2 => H F h1 (fun p q r => (h2 _ (rn_ix_lt p q r)).trans rn_fitN_i))
theorem rn_w421 : ∀ p q r : Bool, decide (rn_ix p q r &&& 4 = 0) = !p ∧ decide (rn_ix p q r &&& 2 = 0) = !q ∧ decide (rn_ix p q r &&& 1 = 0) = !r := by decide
theorem rn_bn : ∀ b c : Bool, (!b) = (!c) ↔ b = c := by decide
theorem rn_sh4 {F S : Nat} (h : rn_shd F 4 S) (b : Bool) : S.testBit b.toNat = true ↔ ∃ q r, F.testBit (rn_ix b q r) = true := by
  rw [h.2 b]
  constructor
  · rintro ⟨t, ht, h1, h2⟩
    obtain ⟨p, q, r, rfl⟩ := rn_ix_of ht
    rw [(rn_w421 p q r).1, rn_bn] at h2
    subst h2
    exact ⟨q, r, h1⟩
  · rintro ⟨q, r, h1⟩
    exact ⟨_, rn_ix_lt b q r, h1, (rn_w421 b q r).1⟩
theorem rn_sh2 {F S : Nat} (h : rn_shd F 2 S) (b : Bool) : S.testBit b.toNat = true ↔ ∃ p r, F.testBit (rn_ix p b r) = true := by
  rw [h.2 b]
  constructor
  · rintro ⟨t, ht, h1, h2⟩
    obtain ⟨p, q, r, rfl⟩ := rn_ix_of ht
    rw [(rn_w421 p q r).2.1, rn_bn] at h2
    subst h2
    exact ⟨p, r, h1⟩
  · rintro ⟨p, r, h1⟩
    exact ⟨_, rn_ix_lt p b r, h1, (rn_w421 p b r).2.1⟩
theorem rn_sh1 {F S : Nat} (h : rn_shd F 1 S) (b : Bool) : S.testBit b.toNat = true ↔ ∃ p q, F.testBit (rn_ix p q b) = true := by
  rw [h.2 b]
  constructor
  · rintro ⟨t, ht, h1, h2⟩
    obtain ⟨p, q, r, rfl⟩ := rn_ix_of ht
    rw [(rn_w421 p q r).2.2, rn_bn] at h2
    subst h2
    exact ⟨p, q, h1⟩
  · rintro ⟨p, q, h1⟩
    exact ⟨_, rn_ix_lt p q b, h1, (rn_w421 p q b).2.2⟩
theorem rn_dm_put {n x d : Nat} {D : Nat → Nat} {a9 : Nat → Int32} {e : Int32} (h : rn_dm n D a9) (hd : d < 4) (he : e = nI d) : rn_dm n (rn_put D x d) (upd a9 x e) := by
  intro v hv
  by_cases g : v = x
  · rw [g, pk_us, rn_put_s]; exact ⟨he, hd⟩
  · rw [pk_un g, rn_put_n _ _ g]; exact h v hv
theorem rn_and_put {D : Nat → Nat} {x S v i : Nat} : (rn_put D x (D x &&& S) v).testBit i = true ↔ (D v).testBit i = true ∧ (v = x → S.testBit i = true) := by
  by_cases g : v = x
  · rw [g, rn_put_s, Nat.testBit_and, Bool.and_eq_true]
    exact ⟨fun h => ⟨h.1, fun _ => h.2⟩, fun h => ⟨h.1, h.2 rfl⟩⟩
  · rw [rn_put_n _ _ g]
    exact ⟨fun h => ⟨h, fun e => absurd e g⟩, fun h => h.1⟩
theorem rn_b3 (p q r : Nat) : nI p + nI q * 4 + nI r * 16 = nI (p + q * 4 + r * 16) := by
  show nI p + nI q * nI 4 + nI r * nI 16 = _
  rw [pk_mul, pk_mul, nI_add, nI_add]
theorem rn_narrow {n m : Nat} {fo : Int32} {a1 a2 a3 a4 a5 a6 a7 a8 a9 a10 a11 a12 a13 a14 : Nat → Int32} {post : Int32 → St2 → Prop} {K R C X Y Z D : Nat → Nat} {c : Nat} (hC : rn_core n m K R C X Y Z a1 a2 a3 a4 a5 a6 a7) (hD : rn_dm n D a9) (hc : c < m)
    (H : ∀ (D' : Nat → Nat) (b9 : Nat → Int32) (r k : Int32), rn_dm n D' b9 → rn_step n (X c) (Y c) (Z c) (C c) D D' → ((∃ p q s, rn_fit (X c) (Y c) (Z c) (C c) D p q s) ∧ k = 0 ∨ (¬ ∃ p q s, rn_fit (X c) (Y c) (Z c) (C c) D p q s) ∧ k = 1) → (r = 0 ∧ (∀ v, v < n → D' v = D v) ∨ r = 1 ∧ ∃ v, v < n ∧ D' v ≠ D v) → post r (nI n, nI m, -1, k, fo, a1, a2, a3, a4, a5, a6, a7, a8, b9, a10, a11, a12, a13, a14)) : wpX_narrow post (nI n, nI m, -1, 0, fo, a1, a2, a3, a4, a5, a6, a7, a8, a9, a10, a11, a12, a13, a14) (nI c) := by
  obtain ⟨⟨n2, n8, m20⟩, hK, hv, hcs⟩ := hC
  have hC : rn_core n m K R C X Y Z a1 a2 a3 a4 a5 a6 a7 := ⟨⟨n2, n8, m20⟩, hK, hv, hcs⟩
  obtain ⟨vx, vy, vz⟩ := hv c hc
  obtain ⟨r6, c256, e4, e1, e5, e6, e7, _, _⟩ := hcs c hc
  have cc : (nI c).toNatClampNeg = c := nI_clamp (by omega)
  have c20 : vp_in (nI c) 20 := pk_in c 20 (by omega)
  have ix : vp_in (nI (X c)) 8 := pk_in (X c) 8 (by omega)
  have iy : vp_in (nI (Y c)) 8 := pk_in (Y c) 8 (by omega)
  have iz : vp_in (nI (Z c)) 8 := pk_in (Z c) 8 (by omega)
  have cx : (nI (X c)).toNatClampNeg = X c := nI_clamp (by omega)
  have cy : (nI (Y c)).toNatClampNeg = Y c := nI_clamp (by omega)
  have cz : (nI (Z c)).toNatClampNeg = Z c := nI_clamp (by omega)
  refine ⟨c20, nm_r (e' := nI (X c)) (by rw [cc]; exact e5) ⟨c20, nm_r (e' := nI (Y c)) (by rw [cc]; exact e6) ⟨c20, nm_r (e' := nI (Z c)) (by rw [cc]; exact e7) ⟨ix, iy, iz, nm_r (e' := nI (D (X c) + D (Y c) * 4 + D (Z c) * 16)) ?_ (rn_fitting hC hD hc (fun F hF hFi => ⟨ix, rn_shadow (w := 4) hF (by omega) (fun S4 h4 => ⟨ix, nm_r (e' := upd a9 (X c) (nI (D (X c) &&& S4))) ?_ ⟨iy, rn_shadow (w := 2) hF (by omega) (fun S2 h2 => ⟨iy, ?_⟩)⟩⟩)⟩))⟩⟩⟩⟩
  · rw [cx, cy, cz, (hD _ vx).1, (hD _ vy).1, (hD _ vz).1, rn_b3]
  · rw [cx, (hD _ vx).1, rn_and]
  · have d1 : rn_dm n (rn_put D (X c) (D (X c) &&& S4)) (upd a9 (X c) (nI (D (X c) &&& S4))) := rn_dm_put hD (Nat.lt_of_le_of_lt Nat.and_le_left (hD _ vx).2) rfl
    generalize hD1 : rn_put D (X c) (D (X c) &&& S4) = D1 at d1
    generalize upd a9 (X c) (nI (D (X c) &&& S4)) = b1 at d1
    refine nm_r (e' := upd b1 (Y c) (nI (D1 (Y c) &&& S2))) (by rw [cy, (d1 _ vy).1, rn_and]) ⟨iz, rn_shadow (w := 1) hF (by omega) (fun S1 h1 => ⟨iz, ?_⟩)⟩
    have d2 : rn_dm n (rn_put D1 (Y c) (D1 (Y c) &&& S2)) (upd b1 (Y c) (nI (D1 (Y c) &&& S2))) := rn_dm_put d1 (Nat.lt_of_le_of_lt Nat.and_le_left (d1 _ vy).2) rfl
    generalize hD2 : rn_put D1 (Y c) (D1 (Y c) &&& S2) = D2 at d2
    generalize upd b1 (Y c) (nI (D1 (Y c) &&& S2)) = b2 at d2
    refine nm_r (e' := upd b2 (Z c) (nI (D2 (Z c) &&& S1))) (by rw [cz, (d2 _ vz).1, rn_and]) ?_
    have d3 : rn_dm n (rn_put D2 (Z c) (D2 (Z c) &&& S1)) (upd b2 (Z c) (nI (D2 (Z c) &&& S1))) := rn_dm_put d2 (Nat.lt_of_le_of_lt Nat.and_le_left (d2 _ vz).2) rfl
    generalize hD3 : rn_put D2 (Z c) (D2 (Z c) &&& S1) = D3 at d3
    generalize upd b2 (Z c) (nI (D2 (Z c) &&& S1)) = b3 at d3
    have hs : rn_step n (X c) (Y c) (Z c) (C c) D D3 := by
      intro v _ b
      rw [← hD3, rn_and_put, ← hD2, rn_and_put, ← hD1, rn_and_put, rn_sh4 h4, rn_sh2 h2, rn_sh1 h1]
      have q4 : (∃ q r, F.testBit (rn_ix b q r) = true) ↔ ∃ q r, rn_fit (X c) (Y c) (Z c) (C c) D b q r := ⟨fun ⟨q, r, h⟩ => ⟨q, r, (hFi b q r).mp h⟩, fun ⟨q, r, h⟩ => ⟨q, r, (hFi b q r).mpr h⟩⟩
      have q2 : (∃ q r, F.testBit (rn_ix q b r) = true) ↔ ∃ q r, rn_fit (X c) (Y c) (Z c) (C c) D q b r := ⟨fun ⟨q, r, h⟩ => ⟨q, r, (hFi q b r).mp h⟩, fun ⟨q, r, h⟩ => ⟨q, r, (hFi q b r).mpr h⟩⟩
      have q1 : (∃ q r, F.testBit (rn_ix q r b) = true) ↔ ∃ q r, rn_fit (X c) (Y c) (Z c) (C c) D q r b := ⟨fun ⟨q, r, h⟩ => ⟨q, r, (hFi q r b).mp h⟩, fun ⟨q, r, h⟩ => ⟨q, r, (hFi q r b).mpr h⟩⟩
      rw [q4, q2, q1]
      exact ⟨fun h => ⟨h.1.1.1, h.1.1.2, h.1.2, h.2⟩, fun h => ⟨⟨⟨h.1, h.2.1⟩, h.2.2.1⟩, h.2.2.2⟩⟩
    have ho : ∀ v, v ≠ X c → v ≠ Y c → v ≠ Z c → D3 v = D v := by
      intro v g1 g2 g3
      rw [← hD3, rn_put_n _ _ g3, ← hD2, rn_put_n _ _ g2, ← hD1, rn_put_n _ _ g1]
    have B : ∀ k : Int32, ((∃ p q s, rn_fit (X c) (Y c) (Z c) (C c) D p q s) ∧ k = 0 ∨ (¬ ∃ p q s, rn_fit (X c) (Y c) (Z c) (C c) D p q s) ∧ k = 1) → narrow .boolean (.int k) = .int k ∧ fits .boolean (.int k) = true → wX_narrow_127 post (nI (X c)) (nI (Y c)) (nI (Z c)) (nI (D (X c) + D (Y c) * 4 + D (Z c) * 16)) k (nI n) (nI m) (-1) 0 fo a1 a2 a3 a4 a5 a6 a7 a8 b3 a10 a11 a12 a13 a14 := by
      intro k hk hn
      refine ⟨hn.1, hn.2, ix, iy, iz, ?_⟩
      rw [cx, cy, cz, (d3 _ vx).1, (d3 _ vy).1, (d3 _ vz).1, rn_b3]
      have l1 := (hD _ vx).2
      have l2 := (hD _ vy).2
      have l3 := (hD _ vz).2
      have l4 := (d3 _ vx).2
      have l5 := (d3 _ vy).2
      have l6 := (d3 _ vz).2
      refine pk_eq (D (X c) + D (Y c) * 4 + D (Z c) * 16) (D3 (X c) + D3 (Y c) * 4 + D3 (Z c) * 16) (fun e => H D3 b3 0 k d3 hs hk (Or.inl ⟨rfl, fun v _ => ?_⟩)) (fun e => H D3 b3 1 k d3 hs hk (Or.inr ⟨rfl, ?_⟩))
      · by_cases g1 : v = X c
        · rw [g1]; omega
        · by_cases g2 : v = Y c
          · rw [g2]; omega
          · by_cases g3 : v = Z c
            · rw [g3]; omega
            · exact ho v g1 g2 g3
      · by_cases g1 : D3 (X c) = D (X c)
        · by_cases g2 : D3 (Y c) = D (Y c)
          · by_cases g3 : D3 (Z c) = D (Z c)
            · rw [g1, g2, g3] at e
              exact absurd rfl e
            · exact ⟨_, vz, g3⟩
          · exact ⟨_, vy, g2⟩
        · exact ⟨_, vx, g1⟩
    refine pk_eq F 0 (fun e => B 1 (Or.inr ⟨fun ⟨p, q, s, h⟩ => ?_, rfl⟩) ⟨rfl, rfl⟩) (fun e => B 0 (Or.inl ⟨?_, rfl⟩) ⟨rfl, rfl⟩)
    · have := (hFi p q s).mpr h
      rw [e, Nat.zero_testBit] at this
      exact absurd this (by decide)
    · obtain ⟨i, hi⟩ := Nat.exists_testBit_of_ne_zero e
      have i8 : i < 8 := by
        rcases Nat.lt_or_ge i 8 with g | g
        · exact g
        · rw [Nat.testBit_lt_two_pow (Nat.lt_of_lt_of_le (m := 2 ^ 8) hF (Nat.pow_le_pow_right (by omega) g))] at hi
          exact absurd hi (by decide)
      obtain ⟨p, q, r, rfl⟩ := rn_ix_of i8
      exact ⟨p, q, r, (hFi p q r).mp hi⟩
end
section
/-! part 8: filter -/
theorem rn_ne4 : ∀ d, d < 4 → d ≠ 0 → ∃ b : Bool, d.testBit b.toNat = true := by decide
section
variable {n m : Nat} {fo : Int32} {a1 a2 a3 a4 a5 a6 a7 a8 a9 a10 a11 a12 a13 a14 : Nat → Int32} {K R C X Y Z D : Nat → Nat} {post : Int32 → St2 → Prop}
/-- D' came out of D by filtering -/
def rn_fl (n m : Nat) (C X Y Z D D' : Nat → Nat) : Prop := (∀ v, v < n → ∀ b : Bool, (D' v).testBit b.toNat = true → (D v).testBit b.toNat = true) ∧ (∀ f, rn_sat n m C X Y Z D f → rn_sat n m C X Y Z D' f) ∧ rn_ne n D'
theorem rn_f39 (hC : rn_core n m K R C X Y Z a1 a2 a3 a4 a5 a6 a7) {rd : Nat} {J : Int32 → Int32 → Int32 → Int32 → Int32 → Int32 → (Nat → Int32) → (Nat → Int32) → (Nat → Int32) → (Nat → Int32) → (Nat → Int32) → (Nat → Int32) → (Nat → Int32) → (Nat → Int32) → (Nat → Int32) → (Nat → Int32) → (Nat → Int32) → (Nat → Int32) → (Nat → Int32) → (Nat → Int32) → Prop}
    {D1 : Nat → Nat} {b9 : Nat → Int32} (hD : rn_dm n D1 b9) (hf : rn_fl n m C X Y Z D D1) (hp : rn_pc D1 n + rd ≤ 16)
    (H0 : (¬ ∃ f, rn_sat n m C X Y Z D f) → ∀ b9, post 0 (nI n, nI m, -1, 0, fo, a1, a2, a3, a4, a5, a6, a7, a8, b9, a10, a11, a12, a13, a14))
    (H1 : ∀ D' b9, rn_dm n D' b9 → rn_fl n m C X Y Z D D' → (∀ c, c < m → rn_gac (X c) (Y c) (Z c) (C c) D') → post 1 (nI n, nI m, -1, 0, fo, a1, a2, a3, a4, a5, a6, a7, a8, b9, a10, a11, a12, a13, a14))
    (HJ : ∀ D' b9, rn_dm n D' b9 → rn_fl n m C X Y Z D D' → rn_pc D' n + (rd + 1) ≤ 16 → J (nI (rd + 1)) (nI n) (nI m) (-1) 0 fo a1 a2 a3 a4 a5 a6 a7 a8 b9 a10 a11 a12 a13 a14) :
    ∃ fu, wX_filter_39 post J (nI rd) fu 0 0 (nI n) (nI m) (-1) 0 fo a1 a2 a3 a4 a5 a6 a7 a8 b9 a10 a11 a12 a13 a14 := by
  obtain ⟨⟨n2, n8, m20⟩, hK, hv, hcs⟩ := hC
  have hC : rn_core n m K R C X Y Z a1 a2 a3 a4 a5 a6 a7 := ⟨⟨n2, n8, m20⟩, hK, hv, hcs⟩
  refine pk_loop (fun f i (s : Nat × (Nat → Int32)) => wX_filter_39 post J (nI rd) f (nI s.1) (nI i) (nI n) (nI m) (-1) 0 fo a1 a2 a3 a4 a5 a6 a7 a8 (s.2) a10 a11 a12 a13 a14) (fun i s => s.1 ≤ 1 ∧ ∃ D', rn_dm n D' s.2 ∧ rn_fl n m C X Y Z D D' ∧ rn_pc D' n + (rd + s.1) ≤ 16 ∧ (s.1 = 0 → ∀ c, c < i → rn_gac (X c) (Y c) (Z c) (C c) D')) m 0 (0, b9) (by omega) ⟨Nat.zero_le 1, D1, hD, hf, hp, fun _ c hc => absurd hc (by omega)⟩ ?_ ?_
  · intro f s h
    obtain ⟨s1, D', h1, h2, h3, h4⟩ := h
    refine pk_le m m (fun _ => pk_eq s.1 0 (fun e => H1 D' s.2 h1 h2 (h4 e)) (fun e => nm_r (nI_1 rd) (HJ D' s.2 h1 h2 (by omega)))) (fun z => absurd z (by omega))
  · intro f i s hi h hw
    obtain ⟨s1, D', h1, h2, h3, h4⟩ := h
    obtain ⟨vx, vy, vz⟩ := hv i hi
    refine pk_le m i (fun z => absurd z (by omega)) (fun _ => br_f (rn_ne1 (by omega)) (rn_narrow hC h1 hi (fun D2 c9 r k g1 g2 g3 g4 => ?_)))
    rcases g3 with ⟨g3, rfl⟩ | ⟨g3, rfl⟩
    · have sub : ∀ v, v < n → ∀ b : Bool, (D2 v).testBit b.toNat = true → (D' v).testBit b.toNat = true := rn_sub_step g2
      have fl : rn_fl n m C X Y Z D D2 := ⟨fun v hv' b g => h2.1 v hv' b (sub v hv' b g), fun f g => rn_sat_step (h2.2.1 f g) hv hi g2, rn_step_ne g2 h2.2.2 g3⟩
      have s4 : ∀ v, v < n → D2 v % 2 + D2 v / 2 ≤ D' v % 2 + D' v / 2 := fun v hv' => (rn_sub4 _ (h1 v hv').2 _ (g1 v hv').2 (sub v hv')).1
      have le := rn_pc_le s4
      have C0 : ∀ z : Nat, z ≤ 1 → rn_pc D2 n + (rd + z) ≤ 16 → (z = 0 → ∀ c, c < i + 1 → rn_gac (X c) (Y c) (Z c) (C c) D2) → wX_filter_72 post J (wX_filter_39 post J (nI rd) f) (nI rd) (nI i) (nI z) (nI n) (nI m) (-1) 0 fo a1 a2 a3 a4 a5 a6 a7 a8 c9 a10 a11 a12 a13 a14 :=
        fun z hz k1 k2 => br_t rfl (nm_r (nI_1 i) (hw (z, c9) ⟨hz, D2, g1, fl, k1, k2⟩))
      rcases g4 with ⟨rfl, g4⟩ | ⟨rfl, v, hv', g4⟩
      · refine br_t rfl (pk_eq s.1 0 (fun e => C0 0 (by omega) (by omega) (fun _ => ?_)) (fun e => C0 1 (by omega) (by omega) (fun q => absurd q (by decide))))
        intro c hc
        have G : rn_gac (X c) (Y c) (Z c) (C c) D' := by
          by_cases e' : c = i
          · subst e'
            exact rn_step_gac vx vy vz g2 g3 g4
          · exact h4 e c (by omega)
        obtain ⟨wx, wy, wz⟩ := hv c (by omega)
        exact rn_gac_c wx wy wz g4 G
      · have lt := rn_pc_lt s4 hv' ((rn_sub4 _ (h1 v hv').2 _ (g1 v hv').2 (sub v hv')).2 g4)
        exact br_f (by decide) (C0 1 (by omega) (by omega) (fun q => absurd q (by decide)))
    · have no : ¬ ∃ f, rn_sat n m C X Y Z D f := fun ⟨f, hf⟩ => g3 ⟨_, _, _, rn_sat_fit (h2.2.1 f hf) hv hi⟩
      have C1 : ∀ z : Int32, wX_filter_72 post J (wX_filter_39 post J (nI rd) f) (nI rd) (nI i) z (nI n) (nI m) (-1) 1 fo a1 a2 a3 a4 a5 a6 a7 a8 c9 a10 a11 a12 a13 a14 := fun z => br_f (by decide) (H0 no c9)
      exact br_c (fun _ => br_c (fun _ => C1 0) (fun _ => C1 1)) (fun _ => C1 1)
theorem rn_filter (hC : rn_core n m K R C X Y Z a1 a2 a3 a4 a5 a6 a7) (hD : rn_dm n D a9)
    (H0 : (¬ ∃ f, rn_sat n m C X Y Z D f) → ∀ b9, post 0 (nI n, nI m, -1, 0, fo, a1, a2, a3, a4, a5, a6, a7, a8, b9, a10, a11, a12, a13, a14))
    (H1 : ∀ D' b9, rn_dm n D' b9 → rn_fl n m C X Y Z D D' → (∀ c, c < m → rn_gac (X c) (Y c) (Z c) (C c) D') → post 1 (nI n, nI m, -1, 0, fo, a1, a2, a3, a4, a5, a6, a7, a8, b9, a10, a11, a12, a13, a14)) : wpX_filter post (nI n, nI m, -1, 0, fo, a1, a2, a3, a4, a5, a6, a7, a8, a9, a10, a11, a12, a13, a14) := by
  have n8 := hC.1.2.1
  refine pk_loop (σ := Unit) (fun f i _ => wX_filter_2 post (nI n) (nI m) (-1) 0 fo a1 a2 a3 a4 a5 a6 a7 a8 a9 a10 a11 a12 a13 a14 f (nI i)) (fun i _ => ∀ v, v < i → D v ≠ 0) n 0 () (by omega) (fun v hv => absurd hv (by omega)) ?_ ?_
  · intro f _ h
    refine pk_le n n (fun _ => ?_) (fun z => absurd z (by omega))
    refine pk_loop (fun f i (s : Nat → Int32) => wX_filter_29 post f (nI i) (nI n) (nI m) (-1) 0 fo a1 a2 a3 a4 a5 a6 a7 a8 s a10 a11 a12 a13 a14) (fun i s => ∃ D', rn_dm n D' s ∧ rn_fl n m C X Y Z D D' ∧ rn_pc D' n + i ≤ 16) 18 0 a9 (by omega) ⟨D, hD, ⟨fun v _ b g => g, fun f g => g, fun v hv => rn_ne4 _ (hD v hv).2 (h v hv)⟩, ?_⟩ ?_ ?_
    · have := rn_pc_16 (D := D) (k := n) (fun v hv => (hD v hv).2)
      omega
    · intro f s g
      obtain ⟨D', _, _, g⟩ := g
      omega
    · intro f i s hi g hw
      obtain ⟨D', g1, g2, g3⟩ := g
      exact pk_le 18 i (fun z => absurd z (by omega)) (fun _ => rn_f39 hC g1 g2 g3 H0 H1 (fun D2 b9 k1 k2 k3 => hw b9 ⟨D2, k1, k2, k3⟩))
  · intro f i _ hi h hw
    refine pk_le n i (fun z => absurd z (by omega)) (fun _ => ⟨pk_in i 8 (by omega), ?_⟩)
    rw [nI_clamp (show i < 2 ^ 31 by omega), (hD i hi).1]
    refine pk_eq (D i) 0 (fun e => H0 (fun ⟨f, hf⟩ => ?_) a9) (fun e => nm_r (nI_1 i) (hw () (fun v hv => ?_))) rfl rfl (by have := (hD i hi).2; omega) (by omega)
    · have := hf.1 i hi
      rw [e, Nat.zero_testBit] at this
      exact absurd this (by decide)
    · by_cases e' : v = i
      · rw [e']; exact e
      · exact h v (by omega)
end
end
section
/-! part 9: firstOpen, open, search -/
section
variable {n m : Nat} {fo : Int32} {a1 a2 a3 a4 a5 a6 a7 a8 a9 a10 a11 a12 a13 a14 : Nat → Int32} {K R C X Y Z D : Nat → Nat}
theorem rn_firstOpen {post : Int32 → Prop} (n8 : n ≤ 8) (hD : rn_dm n D a9) (H0 : (∀ v, v < n → D v ≠ 3) → post (nI n)) (H1 : ∀ v, v < n → D v = 3 → post (nI v)) : wpX_firstOpen post (nI n, nI m, -1, 0, fo, a1, a2, a3, a4, a5, a6, a7, a8, a9, a10, a11, a12, a13, a14) := by
  refine pk_loop (σ := Unit) (fun f i _ => wX_firstOpen_2 post (nI n) (nI m) (-1) 0 fo a1 a2 a3 a4 a5 a6 a7 a8 a9 a10 a11 a12 a13 a14 f (nI i)) (fun i _ => ∀ v, v < i → D v ≠ 3) n 0 () (by omega) (fun v hv => absurd hv (by omega)) (fun f _ h => pk_le n n (fun _ => H0 h) (fun z => absurd z (by omega))) ?_
  intro f i _ hi h hw
  refine pk_le n i (fun z => absurd z (by omega)) (fun _ => ⟨pk_in i 8 (by omega), ?_⟩)
  rw [nI_clamp (show i < 2 ^ 31 by omega), (hD i hi).1]
  refine pk_eq (D i) 3 (fun e => H1 i hi e) (fun e => nm_r (nI_1 i) (hw () (fun v hv => ?_))) rfl rfl (by have := (hD i hi).2; omega) (by omega)
  by_cases e' : v = i
  · rw [e']; exact e
  · exact h v (by omega)
theorem rn_88 (d : Nat) : (8 : Int32) + nI d * 8 = nI (8 + d * 8) := by
  show nI 8 + nI d * nI 8 = _
  rw [pk_mul, nI_add]
theorem rn_open {post : Int32 → St2 → Prop} (hC : rn_core n m K R C X Y Z a1 a2 a3 a4 a5 a6 a7) (hD : rn_dm n D a9) {d : Nat} (hd : rn_oc D n + d ≤ n)
    (H0 : (¬ ∃ f, rn_sat n m C X Y Z D f) → ∀ b9, post 0 (nI n, nI m, -1, 0, fo, a1, a2, a3, a4, a5, a6, a7, a8, b9, a10, a11, a12, a13, a14))
    (H1 : (∃ f, rn_sat n m C X Y Z D f ∧ ∀ g, rn_sat n m C X Y Z D g → ∀ v, v < n → g v = f v) → ∀ b9, post 0 (nI n, nI m, -1, 0, fo + 1, a1, a2, a3, a4, a5, a6, a7, a8, b9, a10, a11, a12, a13, a14))
    (H2 : ∀ D' v c9 b9 b10, d < 8 → rn_fl n m C X Y Z D D' → rn_dm n D' c9 → v < n → D' v = 3 → rn_dm n (rn_put D' v 1) b9 → (∀ j, j < 8 → b10 (8 + d * 8 + j) = c9 j) → (∀ j, j < 8 + d * 8 → b10 j = a10 j) → post 1 (nI n, nI m, -1, 0, fo, a1, a2, a3, a4, a5, a6, a7, a8, b9, b10, upd a11 d (nI v), upd a12 d 0, a13, a14)) : wpX_open post (nI n, nI m, -1, 0, fo, a1, a2, a3, a4, a5, a6, a7, a8, a9, a10, a11, a12, a13, a14) (nI d) := by
  have n8 := hC.1.2.1
  have hv := hC.2.2.1
  unfold wpX_open
  refine rn_filter hC hD (fun h b9 => br_t rfl (H0 h b9)) (fun D' c9 h1 h2 h3 => br_f (by decide) (rn_firstOpen n8 h1 (fun h => br_t rfl ?_) (fun v hvn h => br_f (fun e => ?_) (pk_le d 7 (fun hd7 => ?_) (fun hd7 => ?_)))))
  · refine nm_e (H1 ⟨fun v => (D' v).testBit 1, ?_, fun g hg => ?_⟩ c9)
    · exact rn_sat_sub h2.1 (rn_single hv (fun v hv' => (h1 v hv').2) h h2.2.2 h3)
    · exact rn_sole (fun v hv' => (h1 v hv').2) h (h2.2.1 g hg)
  · have := (nI_eq (show v < 2 ^ 31 by omega) (show n < 2 ^ 31 by omega)).mp e
    omega
  · rw [rn_88, nI_clamp (show d < 2 ^ 31 by omega)]
    refine ⟨pk_in d 8 (by omega), nm_e ⟨pk_in d 8 (by omega), nm_e (rn_keep (p := 8 + d * 8) (by omega) (fun b10 k1 k2 => ⟨pk_in v 8 (by omega), ?_⟩))⟩⟩
    rw [nI_clamp (show v < 2 ^ 31 by omega)]
    exact nm_e (H2 D' v c9 _ b10 (by omega) h2 h1 hvn h (rn_dm_put h1 (by omega) rfl) k1 (fun j hj => k2 j (Or.inl hj)))
  · have o1 := rn_oc_pos hvn h
    have o2 : rn_oc D' n ≤ rn_oc D n := by
      refine rn_oc_le (fun u hu e => ?_)
      exact rn_sub3 _ (hD u hu).2 _ (h1 u hu).2 (h2.1 u hu) e
    omega
end
/-- how many solutions the domains hold -/
noncomputable def rn_ct (n m : Nat) (C X Y Z D : Nat → Nat) : Nat := rn_cnt (fun k => rn_sat n m C X Y Z D (fun v => k.testBit v)) (2 ^ n)
theorem rn_sat_put {n m : Nat} {C X Y Z D : Nat → Nat} {f : Nat → Bool} {v : Nat} {b : Bool} (hv : v < n) (hb : (D v).testBit b.toNat = true) : rn_sat n m C X Y Z (rn_put D v (2 ^ b.toNat)) f ↔ rn_sat n m C X Y Z D f ∧ f v = b := by
  have e2 : ∀ b c : Bool, (2 ^ b.toNat).testBit c.toNat = true ↔ c = b := by decide
  constructor
  · intro h
    have hf : f v = b := by
      have := h.1 v hv
      rw [rn_put_s] at this
      exact (e2 b (f v)).mp this
    refine ⟨⟨fun u hu => ?_, h.2⟩, hf⟩
    by_cases e : u = v
    · rw [e, hf]; exact hb
    · have := h.1 u hu
      rw [rn_put_n _ _ e] at this
      exact this
  · intro h
    refine ⟨fun u hu => ?_, h.1.2⟩
    by_cases e : u = v
    · rw [e, rn_put_s, h.2]; exact (e2 b b).mpr rfl
    · rw [rn_put_n _ _ e]; exact h.1.1 u hu
theorem rn_ct_split {n m : Nat} {C X Y Z D : Nat → Nat} {v : Nat} (hv : v < n) (h3 : D v = 3) : rn_ct n m C X Y Z D = rn_ct n m C X Y Z (rn_put D v 1) + rn_ct n m C X Y Z (rn_put D v 2) := by
  refine rn_cnt_add (fun j _ => ?_) (fun j _ h => ?_)
  · have q1 := rn_sat_put (n := n) (m := m) (C := C) (X := X) (Y := Y) (Z := Z) (D := D) (f := fun u => j.testBit u) (v := v) (b := false) hv (by rw [h3]; decide)
    have q2 := rn_sat_put (n := n) (m := m) (C := C) (X := X) (Y := Y) (Z := Z) (D := D) (f := fun u => j.testBit u) (v := v) (b := true) hv (by rw [h3]; decide)
    constructor
    · intro h
      cases e : j.testBit v
      · exact Or.inl (q1.mpr ⟨h, e⟩)
      · exact Or.inr (q2.mpr ⟨h, e⟩)
    · intro h
      rcases h with h | h
      · exact (q1.mp h).1
      · exact (q2.mp h).1
  · have q1 := (rn_sat_put (n := n) (m := m) (C := C) (X := X) (Y := Y) (Z := Z) (D := D) (f := fun u => j.testBit u) (v := v) (b := false) hv (by rw [h3]; decide)).mp h.1
    have q2 := (rn_sat_put (n := n) (m := m) (C := C) (X := X) (Y := Y) (Z := Z) (D := D) (f := fun u => j.testBit u) (v := v) (b := true) hv (by rw [h3]; decide)).mp h.2
    exact absurd (q1.2.symm.trans q2.2) (by decide)
theorem rn_ct_fl {n m : Nat} {C X Y Z D D' : Nat → Nat} (h : rn_fl n m C X Y Z D D') : rn_ct n m C X Y Z D = rn_ct n m C X Y Z D' :=
  rn_cnt_c (fun j _ => ⟨fun g => h.2.1 _ g, fun g => rn_sat_sub h.1 g⟩)
theorem rn_ct_0 {n m : Nat} {C X Y Z D : Nat → Nat} (h : ¬ ∃ f, rn_sat n m C X Y Z D f) : rn_ct n m C X Y Z D = 0 :=
  rn_cnt_0 (fun j _ g => h ⟨_, g⟩)
theorem rn_ct_ex {n m : Nat} {C X Y Z D : Nat → Nat} (hv : rn_vars n m X Y Z) : (0 < rn_ct n m C X Y Z D ↔ ∃ f, rn_sat n m C X Y Z D f) := by
  constructor
  · intro h
    obtain ⟨j, _, hj⟩ := rn_cnt_ex h
    exact ⟨_, hj⟩
  · intro h
    obtain ⟨k, hk, hs⟩ := (rn_sat_num hv).mp h
    exact rn_cnt_pos hk hs
theorem rn_ct_1 {n m : Nat} {C X Y Z D : Nat → Nat} (hv : rn_vars n m X Y Z) (h : ∃ f, rn_sat n m C X Y Z D f ∧ ∀ g, rn_sat n m C X Y Z D g → ∀ v, v < n → g v = f v) : rn_ct n m C X Y Z D = 1 := by
  obtain ⟨f, hf, hu⟩ := h
  obtain ⟨k, hk, e⟩ := rn_num f n
  refine rn_cnt_1 hk (rn_sat_c hv (fun v hv' => (e v hv').symm) hf) (fun i hi g => ?_)
  exact rn_numeq hi hk (fun v hv' => (hu _ g v hv').trans (e v hv').symm)
section
variable {n m : Nat} {fo : Int32} {a1 a2 a3 a4 a5 a6 a7 a8 a9 a10 a11 a12 a13 a14 : Nat → Int32} {K R C X Y Z : Nat → Nat} {post : Int32 → St2 → Prop}
theorem rn_54t {J : Int32 → Int32 → Int32 → Int32 → Int32 → Int32 → Int32 → Int32 → (Nat → Int32) → (Nat → Int32) → (Nat → Int32) → (Nat → Int32) → (Nat → Int32) → (Nat → Int32) → (Nat → Int32) → (Nat → Int32) → (Nat → Int32) → (Nat → Int32) → (Nat → Int32) → (Nat → Int32) → (Nat → Int32) → (Nat → Int32) → Prop} {x1 x3 : Int32} {d st v : Nat} (hd : d < 8) (hv : v < 8) (h12 : a12 d = 0) (h11 : a11 d = nI v)
    (H : ∀ c9, (∀ j, j < 8 → c9 j = a10 (8 + d * 8 + j)) → J (nI (d + 1)) 1 (nI (st + 1)) (nI n) (nI m) (-1) 0 fo a1 a2 a3 a4 a5 a6 a7 a8 (upd c9 v 2) a10 a11 (upd a12 d 1) a13 a14) : wX_search_54 post J x1 (nI (d + 1)) x3 (nI st) (nI n) (nI m) (-1) 0 fo a1 a2 a3 a4 a5 a6 a7 a8 a9 a10 a11 a12 a13 a14 := by
  refine nm_r (pk_m1 d) (br_t (nI_pos' (by omega)) ⟨pk_in d 8 hd, ?_⟩)
  rw [nI_clamp (show d < 2 ^ 31 by omega), rn_88]
  refine br_t h12 ⟨pk_in d 8 hd, nm_e (rn_fetch (by omega) (fun c9 hc => ⟨pk_in d 8 hd, ?_⟩))⟩
  rw [h11, nI_clamp (show v < 2 ^ 31 by omega)]
  exact ⟨pk_in v 8 hv, nm_e (nm_r (nI_1 d) (nm_r (nI_1 st) (H c9 hc)))⟩
theorem rn_54p {J : Int32 → Int32 → Int32 → Int32 → Int32 → Int32 → Int32 → Int32 → (Nat → Int32) → (Nat → Int32) → (Nat → Int32) → (Nat → Int32) → (Nat → Int32) → (Nat → Int32) → (Nat → Int32) → (Nat → Int32) → (Nat → Int32) → (Nat → Int32) → (Nat → Int32) → (Nat → Int32) → (Nat → Int32) → (Nat → Int32) → Prop} {x1 x3 : Int32} {d st : Nat} (hd : d < 8) (h12 : a12 d = 1)
    (H : J (nI d) x3 (nI (st + 1)) (nI n) (nI m) (-1) 0 fo a1 a2 a3 a4 a5 a6 a7 a8 a9 a10 a11 a12 a13 a14) : wX_search_54 post J x1 (nI (d + 1)) x3 (nI st) (nI n) (nI m) (-1) 0 fo a1 a2 a3 a4 a5 a6 a7 a8 a9 a10 a11 a12 a13 a14 := by
  refine nm_r (pk_m1 d) (br_t (nI_pos' (by omega)) ⟨pk_in d 8 hd, ?_⟩)
  rw [nI_clamp (show d < 2 ^ 31 by omega)]
  exact br_f (by rw [h12]; decide) (nm_r (nI_1 st) H)
theorem rn_srch {x1 : Int32} (hC : rn_core n m K R C X Y Z a1 a2 a3 a4 a5 a6 a7) : ∀ (o d : Nat), d + o = 8 → ∀ (D : Nat → Nat) (k st : Nat) (a9 a10 a11 a12 : Nat → Int32), rn_dm n D a9 → rn_oc D n + d ≤ n → st + 3 * 2 ^ o ≤ 2000 → (x1 = 0 → k = 0) → k + rn_ct n m C X Y Z D ≤ 300 →
    (∀ (st' : Nat) (b9 b10 b11 b12 : Nat → Int32), st' + 3 ≤ st + 3 * 2 ^ o → (x1 = 0 → k + rn_ct n m C X Y Z D = 0) → (∀ j, j < 8 + d * 8 → b10 j = a10 j) → (∀ i, i < d → b11 i = a11 i ∧ b12 i = a12 i) → wX_search_54 post (wX_search_12 post x1 (2048 - st')) x1 (nI d) 0 (nI st') (nI n) (nI m) (-1) 0 (nI (k + rn_ct n m C X Y Z D)) a1 a2 a3 a4 a5 a6 a7 a8 b9 b10 b11 b12 a13 a14) →
    (x1 = 0 → (∃ f, rn_sat n m C X Y Z D f) → ∀ (q : Nat) (b9 b10 b11 b12 : Nat → Int32), 0 < q → q ≤ 300 → (∀ j, j < 8 + d * 8 → b10 j = a10 j) → post (nI q) (nI n, nI m, -1, 0, nI q, a1, a2, a3, a4, a5, a6, a7, a8, b9, b10, b11, b12, a13, a14)) →
    wX_search_12 post x1 (2049 - st) (nI d) 1 (nI st) (nI n) (nI m) (-1) 0 (nI k) a1 a2 a3 a4 a5 a6 a7 a8 a9 a10 a11 a12 a13 a14 := by
  have n8 := hC.1.2.1
  have hv := hC.2.2.1
  intro o
  induction o with
  | zero =>
    intro d hdo D k st a9 a10 a11 a12 hD hoc hst hk h300 Hc He
    rw [show 2049 - st = (2048 - st) + 1 by omega]
    refine pk_le 2048 st (fun z => absurd z (by omega)) (fun _ => br_f (by decide) (rn_open hC hD hoc (fun h b9 => ?_) (fun h b9 => ?_) (fun D' v c9 b9 b10 hd8 => absurd hd8 (by omega))))
    · have c0 := rn_ct_0 h
      have g := Hc st b9 a10 a11 a12 (by omega) (fun e => by rw [c0]; exact hk e) (fun j _ => rfl) (fun i _ => ⟨rfl, rfl⟩)
      rw [c0] at g
      exact br_t rfl (br_c (fun e => br_t (by rw [hk e]; decide) g) (fun _ => g))
    · have c1 := rn_ct_1 hv h
      refine br_t rfl (br_c (fun e => br_f ?_ ?_) (fun e => ?_))
      · rw [nI_1]; exact nI_nle (by omega) (by omega)
      · rw [nI_1]
        obtain ⟨f, hf, _⟩ := h
        exact He e ⟨f, hf⟩ (k + 1) b9 a10 a11 a12 (by omega) (by omega) (fun j _ => rfl)
      · have g := Hc st b9 a10 a11 a12 (by omega) (fun e' => absurd e' e) (fun j _ => rfl) (fun i _ => ⟨rfl, rfl⟩)
        rw [c1] at g
        rw [nI_1]
        exact g
  | succ o ih =>
    intro d hdo D k st a9 a10 a11 a12 hD hoc hst hk h300 Hc He
    have hp : 2 ^ (o + 1) = 2 * 2 ^ o := by rw [Nat.pow_succ, Nat.mul_comm]
    have hpos := Nat.two_pow_pos o
    rw [show 2049 - st = (2048 - st) + 1 by omega]
    refine pk_le 2048 st (fun z => absurd z (by omega)) (fun _ => br_f (by decide) (rn_open hC hD hoc (fun h b9 => ?_) (fun h b9 => ?_) (fun D' v c9 b9 b10 hd8 hfl hD' hvn hv3 hb9 hb10 hb10' => ?_)))
    · have c0 := rn_ct_0 h
      have g := Hc st b9 a10 a11 a12 (by omega) (fun e => by rw [c0]; exact hk e) (fun j _ => rfl) (fun i _ => ⟨rfl, rfl⟩)
      rw [c0] at g
      exact br_t rfl (br_c (fun e => br_t (by rw [hk e]; decide) g) (fun _ => g))
    · have c1 := rn_ct_1 hv h
      refine br_t rfl (br_c (fun e => br_f ?_ ?_) (fun e => ?_))
      · rw [nI_1]; exact nI_nle (by omega) (by omega)
      · rw [nI_1]
        obtain ⟨f, hf, _⟩ := h
        exact He e ⟨f, hf⟩ (k + 1) b9 a10 a11 a12 (by omega) (by omega) (fun j _ => rfl)
      · have g := Hc st b9 a10 a11 a12 (by omega) (fun e' => absurd e' e) (fun j _ => rfl) (fun i _ => ⟨rfl, rfl⟩)
        rw [c1] at g
        rw [nI_1]
        exact g
    · have cs := (rn_ct_fl hfl).trans (rn_ct_split (n := n) (m := m) (C := C) (X := X) (Y := Y) (Z := Z) hvn hv3)
      have o2 : rn_oc D' n ≤ rn_oc D n := rn_oc_le (fun u hu e => rn_sub3 _ (hD u hu).2 _ (hD' u hu).2 (hfl.1 u hu) e)
      have ol : ∀ e, e ≠ 3 → rn_oc (rn_put D' v e) n < rn_oc D' n := by
        intro e he
        refine rn_oc_lt (w := v) (fun u hu g => ?_) hvn hv3 (by rw [rn_put_s]; exact he)
        by_cases e' : u = v
        · rw [e']; exact hv3
        · rw [rn_put_n _ _ e'] at g; exact g
      have ol1 := ol 1 (by decide)
      have ol2 := ol 2 (by decide)
      have s1 : ∀ f, rn_sat n m C X Y Z (rn_put D' v 1) f → rn_sat n m C X Y Z D f := fun f g => rn_sat_sub hfl.1 ((rn_sat_put (b := false) hvn (by rw [hv3]; decide)).mp g).1
      have s2 : ∀ f, rn_sat n m C X Y Z (rn_put D' v 2) f → rn_sat n m C X Y Z D f := fun f g => rn_sat_sub hfl.1 ((rn_sat_put (b := true) hvn (by rw [hv3]; decide)).mp g).1
      generalize hc1 : rn_ct n m C X Y Z (rn_put D' v 1) = t1 at cs
      generalize hc2 : rn_ct n m C X Y Z (rn_put D' v 2) = t2 at cs
      refine br_f (by decide) (nm_r (nI_1 d) (nm_r (nI_1 st) ?_))
      have IH1 := ih (d + 1) (by omega) (rn_put D' v 1) k (st + 1) b9 b10 (upd a11 d (nI v)) (upd a12 d 0) hb9 (by omega) (by omega) hk (by omega)
      rw [show 2049 - (st + 1) = 2048 - st by omega] at IH1
      refine IH1 (fun st1 d9 d10 d11 d12 q1 q2 q3 q4 => ?_) (fun e ⟨f, hf⟩ q d9 d10 d11 d12 k1 k2 k3 => He e ⟨f, s1 f hf⟩ q d9 d10 d11 d12 k1 k2 (fun j hj => (k3 j (by omega)).trans (hb10' j hj)))
      rw [hc1] at q2 ⊢
      have q4d := q4 d (by omega)
      refine rn_54t (d := d) (v := v) hd8 (by omega) (by rw [q4d.2, pk_us]) (by rw [q4d.1, pk_us]) (fun e9 he9 => ?_)
      have dm2 : rn_dm n (rn_put D' v 2) (upd e9 v 2) := by
        refine rn_dm_put (d := 2) (fun u hu => ?_) (by omega) rfl
        rw [he9 u (by omega), q3 _ (by omega), hb10 u (by omega)]
        exact hD' u hu
      have IH2 := ih (d + 1) (by omega) (rn_put D' v 2) (k + t1) (st1 + 1) (upd e9 v 2) d10 d11 (upd d12 d 1) dm2 (by omega) (by omega) q2 (by omega)
      rw [show 2049 - (st1 + 1) = 2048 - st1 by omega] at IH2
      refine IH2 (fun st2 f9 f10 f11 f12 w1 w2 w3 w4 => ?_) (fun e ⟨f, hf⟩ q f9 f10 f11 f12 k1 k2 k3 => He e ⟨f, s2 f hf⟩ q f9 f10 f11 f12 k1 k2 (fun j hj => (k3 j (by omega)).trans ((q3 j (by omega)).trans (hb10' j hj))))
      rw [hc2] at w2 ⊢
      have w4d := w4 d (by omega)
      refine rn_54p (d := d) hd8 (by rw [w4d.2, pk_us]) ?_
      rw [show 2048 - st2 = (2048 - (st2 + 1)) + 1 by omega]
      refine pk_le 2048 (st2 + 1) (fun z => absurd z (by omega)) (fun _ => br_t rfl ?_)
      have G4 : ∀ i, i < d → f11 i = a11 i ∧ f12 i = a12 i := by
        intro i hi
        have w4i := w4 i (by omega)
        have q4i := q4 i (by omega)
        rw [w4i.1, w4i.2, q4i.1, pk_un (by omega), pk_un (by omega), q4i.2, pk_un (by omega)]
        exact ⟨rfl, rfl⟩
      have G := Hc (st2 + 1) f9 f10 f11 f12 (by omega) (fun e => by have := w2 e; omega) (fun j hj => (w3 j (by omega)).trans ((q3 j (by omega)).trans (hb10' j hj))) G4
      rw [cs, ← Nat.add_assoc] at G
      exact G
theorem rn_search {x1 : Int32} {D : Nat → Nat} (hC : rn_core n m K R C X Y Z a1 a2 a3 a4 a5 a6 a7) (hD : rn_dm n D a9)
    (H1 : (x1 = 0 → rn_ct n m C X Y Z D = 0) → ∀ (b9 b10 b11 b12 : Nat → Int32), (∀ j, j < 8 → b10 j = a10 j) → post (nI (rn_ct n m C X Y Z D)) (nI n, nI m, -1, 0, nI (rn_ct n m C X Y Z D), a1, a2, a3, a4, a5, a6, a7, a8, b9, b10, b11, b12, a13, a14))
    (H2 : x1 = 0 → (∃ f, rn_sat n m C X Y Z D f) → ∀ (q : Nat) (b9 b10 b11 b12 : Nat → Int32), 0 < q → q ≤ 300 → (∀ j, j < 8 → b10 j = a10 j) → post (nI q) (nI n, nI m, -1, 0, nI q, a1, a2, a3, a4, a5, a6, a7, a8, b9, b10, b11, b12, a13, a14)) : wpX_search post (nI n, nI m, -1, 0, fo, a1, a2, a3, a4, a5, a6, a7, a8, a9, a10, a11, a12, a13, a14) x1 := by
  have n8 := hC.1.2.1
  have c256 : rn_ct n m C X Y Z D ≤ 256 := Nat.le_trans (rn_cnt_le _ _) (Nat.pow_le_pow_right (n := 2) (by omega) n8)
  refine ⟨2049, rn_srch (post := post) (x1 := x1) hC 8 0 rfl D 0 0 a9 a10 a11 a12 hD (by have := rn_oc_n D n; omega) (by decide) (fun _ => rfl) (by omega) ?_ ?_⟩
  · intro st b9 b10 b11 b12 _ h0 h1 _
    rw [Nat.zero_add] at h0 ⊢
    exact nm_e (br_f (by decide) (H1 h0 b9 b10 b11 b12 (fun j hj => h1 j (by omega))))
  · intro e h q b9 b10 b11 b12 k1 k2 k3
    exact H2 e h q b9 b10 b11 b12 k1 k2 (fun j hj => k3 j (by omega))
end
end
section
/-! part 10: join, parities, joinAll, eliminate, rank -/
def rn_rm (n : Nat) (B : Nat → Nat) (a14 : Nat → Int32) : Prop := ∀ v, v < n → a14 v = nI (B v)
theorem rn_roweq {n lo : Nat} {β : Bool} {f : Nat → Bool} (n8 : n ≤ 8) (hlo : ∀ u, n ≤ u → lo.testBit u = false) : rn_rw n (lo ||| β.toNat * 256) ∧ (rn_eqn n (lo ||| β.toNat * 256) f ↔ rn_par lo f n = β) := by
  have hb : ∀ u, (β.toNat * 256).testBit u = (β && decide (8 = u)) := by
    intro u
    cases β
    · show Nat.testBit (0 * 256) u = _
      rw [Nat.zero_mul, Nat.zero_testBit]; rfl
    · show Nat.testBit (1 * 2 ^ 8) u = _
      rw [Nat.one_mul, Nat.testBit_two_pow]; rfl
  constructor
  · intro u hu h8
    rw [Nat.testBit_or, hlo u hu, hb, decide_eq_false (Ne.symm h8)]
    cases β <;> rfl
  · unfold rn_eqn
    rw [Nat.testBit_or, hlo 8 n8, hb, decide_eq_true rfl, Bool.and_true, Bool.false_or]
    rw [rn_par_c (w := lo ||| β.toNat * 256) (w' := lo) (f := f) (g := f) (fun v hv => ?_)]
    rw [Nat.testBit_or, hb, decide_eq_false (by omega), Bool.and_false, Bool.or_false]
section
variable {n m : Nat} {fo : Int32} {a1 a2 a3 a4 a5 a6 a7 a8 a9 a10 a11 a12 a13 a14 : Nat → Int32} {K R C X Y Z D B : Nat → Nat}
theorem rn_jn {post : Int32 → St2 → Prop} {w0 : Nat} (n8 : n ≤ 8) (hB : rn_rm n B a14) (hE : rn_ech n B) (hw0 : rn_rw n w0)
    (H1 : ∀ B' b14, rn_rm n B' b14 → rn_ech n B' → (∀ f, rn_rows n B' f ↔ rn_rows n B f ∧ rn_eqn n w0 f) → post 1 (nI n, nI m, -1, 0, fo, a1, a2, a3, a4, a5, a6, a7, a8, a9, a10, a11, a12, a13, b14))
    (H0 : (∀ f, ¬ (rn_rows n B f ∧ rn_eqn n w0 f)) → post 0 (nI n, nI m, -1, 0, fo, a1, a2, a3, a4, a5, a6, a7, a8, a9, a10, a11, a12, a13, a14)) : wpX_join post (nI n, nI m, -1, 0, fo, a1, a2, a3, a4, a5, a6, a7, a8, a9, a10, a11, a12, a13, a14) (nI w0) := by
  refine pk_loop (fun f i (s : Nat) => wX_join_4 post (nI n) (nI m) (-1) 0 fo a1 a2 a3 a4 a5 a6 a7 a8 a9 a10 a11 a12 a13 a14 f (nI s) (nI i)) (fun i s => rn_rw n s ∧ (∀ u, u < i → s.testBit u = false) ∧ ∀ f, rn_rows n B f → (rn_eqn n s f ↔ rn_eqn n w0 f)) n 0 w0 (by omega) ⟨hw0, fun u hu => absurd hu (by omega), fun f _ => Iff.rfl⟩ ?_ ?_
  · intro f s h
    obtain ⟨h1, h2, h3⟩ := h
    have l := rn_rw_lt n8 h1
    refine pk_le n n (fun _ => pk_eq s 0 (fun e => H1 B a14 hB hE (fun f => ⟨fun g => ⟨g, (h3 f g).mp ?_⟩, fun g => g.1⟩)) (fun e => H0 (fun f g => rn_fin h1 h2 e ((h3 f g.1).mpr g.2)))) (fun z => absurd z (by omega))
    rw [e]; exact rn_eqn_0 n f
  · intro f i s hi h hw
    obtain ⟨h1, h2, h3⟩ := h
    have l := rn_rw_lt n8 h1
    have lB := rn_rw_lt n8 (hE i hi).1
    refine pk_le n i (fun z => absurd z (by omega)) (fun _ => rn_hs s i (by omega) (by omega) (fun g => ⟨pk_in i 8 (by omega), ?_⟩) (fun g => nm_r (nI_1 i) (hw s ⟨h1, fun u hu => ?_, h3⟩)))
    · rw [nI_clamp (show i < 2 ^ 31 by omega), hB i hi]
      refine pk_eq (B i) 0 (fun e => ⟨pk_in i 8 (by omega), nm_e (H1 (rn_put B i s) _ (fun v hv => ?_) (fun v hv => ?_) (fun f => ?_))⟩) (fun e => ⟨pk_in i 8 (by omega), nm_r (rn_xor s (B i)) (nm_r (nI_1 i) (hw (s ^^^ B i) ⟨rn_rw_x h1 (hE i hi).1, fun u hu => ?_, fun f hf => (rn_eqn_x (hf i hi)).trans (h3 f hf)⟩))⟩)
      · by_cases ev : v = i
        · rw [ev, pk_us, rn_put_s]
        · rw [pk_un ev, rn_put_n _ _ ev]; exact hB v hv
      · by_cases ev : v = i
        · rw [ev, rn_put_s]; exact ⟨h1, h2, fun _ => g⟩
        · rw [rn_put_n _ _ ev]; exact hE v hv
      · constructor
        · intro hr
          have hr' : rn_rows n B f := by
            intro v hv
            by_cases ev : v = i
            · rw [ev, e]; exact rn_eqn_0 n f
            · have := hr v hv
              rw [rn_put_n _ _ ev] at this
              exact this
          refine ⟨hr', (h3 f hr').mp ?_⟩
          have := hr i hi
          rw [rn_put_s] at this
          exact this
        · intro hr v hv
          by_cases ev : v = i
          · rw [ev, rn_put_s]; exact (h3 f hr.1).mpr hr.2
          · rw [rn_put_n _ _ ev]; exact hr.1 v hv
      · rw [Nat.testBit_xor]
        by_cases eu : u = i
        · rw [eu, g, (hE i hi).2.2 e]; rfl
        · rw [h2 u (by omega), (hE i hi).2.1 u (by omega)]; rfl
    · by_cases eu : u = i
      · rw [eu]; exact g
      · exact h2 u (by omega)
theorem rn_k12 : ∀ b : Bool, (1 : Int32) <<< (nI b.toNat &&& 31) = nI (2 ^ b.toNat) := by decide +kernel
theorem rn_parities {post : Int32 → Prop} {T k : Nat} (hT : T < 256) (hk : k < 8) (H : ∀ S, S < 4 → (∀ b : Bool, S.testBit b.toNat = true ↔ ∃ t, t < 8 ∧ T.testBit t = true ∧ rn_pb t k = b) → post (nI S)) : wpX_parities post () (nI T) (nI k) :=
  pk_loop (fun f i (s : Nat) => wX_parities_4 post (nI T) (nI k) f (nI s) (nI i)) (fun i s => s < 4 ∧ ∀ b : Bool, (s.testBit b.toNat = true ↔ ∃ t, t < i ∧ T.testBit t = true ∧ rn_pb t k = b)) 8 0 0 (by omega) ⟨by omega, fun b => ⟨fun g => absurd g (by rw [Nat.zero_testBit]; decide), fun ⟨t, ht, _⟩ => absurd ht (by omega)⟩⟩
    (fun f s h => pk_le 8 8 (fun _ => H s h.1 h.2) (fun z => absurd z (by omega)))
    (fun f i s hi h hw => pk_le 8 i (fun z => absurd z (by omega)) (fun _ => by
      refine rn_hs T i (by omega) (by omega) (fun g => nm_e (nm_r (rn_pb_i i hi k hk) (nm_r (e' := nI (s ||| 2 ^ (rn_pb i k).toNat)) ?_ (nm_r (nI_1 i) (hw _ ⟨(rn_s4 s h.1 true _).1, fun b => ?_⟩))))) (fun g => nm_r (nI_1 i) (hw s ⟨h.1, fun b => ?_⟩))
      · rw [rn_k12, rn_or]
      · rw [(rn_s4 s h.1 b _).2, h.2 b]
        constructor
        · rintro (⟨t, h1, h2, h3⟩ | e)
          · exact ⟨t, by omega, h2, h3⟩
          · exact ⟨i, by omega, g, e.symm⟩
        · rintro ⟨t, h1, h2, h3⟩
          by_cases e : t = i
          · right
            rw [← h3, e]
          · exact Or.inl ⟨t, by omega, h2, h3⟩
      · rw [h.2 b]
        constructor
        · rintro ⟨t, h1, h2, h3⟩
          exact ⟨t, by omega, h2, h3⟩
        · rintro ⟨t, h1, h2, h3⟩
          by_cases e : t = i
          · rw [e, g] at h2
            exact absurd h2 (by decide)
          · exact ⟨t, by omega, h2, h3⟩))
/-- the equation of a mask -/
def rn_lin (T k : Nat) (t : Nat) : Prop := ∀ β : Bool, (∀ s, s < 8 → T.testBit s = true → rn_pb s k = β) → rn_pb t k = β
theorem rn_lin_all {T t : Nat} (hT : T < 256) (h0 : T ≠ 0) (hx : rn_xc T) (ht : t < 8) : (∀ k, 1 ≤ k → k < 8 → rn_lin T k t) ↔ T.testBit t = true := by
  constructor
  · intro h
    cases e : T.testBit t
    · obtain ⟨k, k1, k8, hk⟩ := rn_aff hT h0 hx ht e
      have := h k k1 k8 (!rn_pb t k) (fun s hs hT' => by
        have := hk s hs hT'
        revert this
        cases rn_pb s k <;> cases rn_pb t k <;> decide)
      revert this
      cases rn_pb t k <;> decide
    · rfl
  · intro h k _ _ β hβ
    exact hβ t ht h
def rn_lo (x y z : Nat) (p q r : Bool) : Nat := ((if p = true then 2 ^ x else 0) ^^^ (if q = true then 2 ^ y else 0)) ^^^ (if r = true then 2 ^ z else 0)
theorem rn_lo1 {n x : Nat} {p : Bool} (hx : x < n) (f : Nat → Bool) : (∀ u, n ≤ u → (if p = true then 2 ^ x else 0).testBit u = false) ∧ rn_par (if p = true then 2 ^ x else 0) f n = (f x && p) := by
  cases p
  · refine ⟨fun u _ => ?_, ?_⟩
    · show Nat.testBit 0 u = false
      exact Nat.zero_testBit u
    · show rn_par 0 f n = (f x && false)
      rw [rn_par_0 (fun v _ => Nat.zero_testBit v), Bool.and_false]
  · refine ⟨fun u hu => ?_, ?_⟩
    · show Nat.testBit (2 ^ x) u = false
      exact Nat.testBit_two_pow_of_ne (by omega)
    · show rn_par (2 ^ x) f n = (f x && true)
      rw [rn_par_1 hx, Bool.and_true]
theorem rn_lo3 {n x y z : Nat} {p q r : Bool} (hx : x < n) (hy : y < n) (hz : z < n) (f : Nat → Bool) : (∀ u, n ≤ u → (rn_lo x y z p q r).testBit u = false) ∧ rn_par (rn_lo x y z p q r) f n = (((f x && p) ^^ (f y && q)) ^^ (f z && r)) := by
  unfold rn_lo
  constructor
  · intro u hu
    rw [Nat.testBit_xor, Nat.testBit_xor, (rn_lo1 hx f).1 u hu, (rn_lo1 hy f).1 u hu, (rn_lo1 hz f).1 u hu]
    rfl
  · rw [rn_par_x, rn_par_x, (rn_lo1 hx f).2, (rn_lo1 hy f).2, (rn_lo1 hz f).2]
theorem rn_m421 : ∀ k, k < 8 → (nI k &&& 4 = 0 ↔ k.testBit 2 = false) ∧ (nI k &&& 2 = 0 ↔ k.testBit 1 = false) ∧ (nI k &&& 1 = 0 ↔ k.testBit 0 = false) := by decide +kernel
theorem rn_hi8 : ∀ S, S < 4 → (nI S >>> ((1 : Int32) &&& 31)) <<< ((8 : Int32) &&& 31) = nI (S / 2 * 256) := by decide +kernel
theorem rn_S12 : ∀ S, S < 4 → S ≠ 3 → S ≠ 0 → S / 2 = (S.testBit 1).toNat ∧ S.testBit 0 = !S.testBit 1 := by decide
theorem rn_bitsw {T : Nat} (hT : T < 256) (h : T ≠ 0) : ∃ t, t < 8 ∧ T.testBit t = true := by
  obtain ⟨i, hi⟩ := Nat.exists_testBit_of_ne_zero h
  refine ⟨i, ?_, hi⟩
  rcases Nat.lt_or_ge i 8 with g | g
  · exact g
  · rw [Nat.testBit_lt_two_pow (Nat.lt_of_lt_of_le (m := 2 ^ 8) hT (Nat.pow_le_pow_right (by omega) g))] at hi
    exact absurd hi (by decide)
theorem rn_joinAll {post : Int32 → St2 → Prop} {c : Nat} (hC : rn_core n m K R C X Y Z a1 a2 a3 a4 a5 a6 a7) (hc : c < m) (hx : rn_xc (C c)) (hB : rn_rm n B a14) (hE : rn_ech n B)
    (H1 : ∀ B' b14, rn_rm n B' b14 → rn_ech n B' → (∀ f, rn_rows n B' f ↔ rn_rows n B f ∧ (C c).testBit (rn_ix (f (X c)) (f (Y c)) (f (Z c))) = true) → post 1 (nI n, nI m, -1, 0, fo, a1, a2, a3, a4, a5, a6, a7, a8, a9, a10, a11, a12, a13, b14))
    (H0 : (∀ f, ¬ (rn_rows n B f ∧ (C c).testBit (rn_ix (f (X c)) (f (Y c)) (f (Z c))) = true)) → ∀ b14, post 0 (nI n, nI m, -1, 0, fo, a1, a2, a3, a4, a5, a6, a7, a8, a9, a10, a11, a12, a13, b14)) : wpX_joinAll post (nI n, nI m, -1, 0, fo, a1, a2, a3, a4, a5, a6, a7, a8, a9, a10, a11, a12, a13, a14) (nI c) := by
  obtain ⟨⟨n2, n8, m20⟩, _, hv, hcs⟩ := hC
  obtain ⟨vx, vy, vz⟩ := hv c hc
  obtain ⟨r6, c256, e4, e1, e5, e6, e7, _, _⟩ := hcs c hc
  have cc : (nI c).toNatClampNeg = c := nI_clamp (by omega)
  have c20 : vp_in (nI c) 20 := pk_in c 20 (by omega)
  refine ⟨c20, by rw [cc, e4]; exact vp_in_nI r6 (by omega), nm_r (e' := nI (C c)) (by rw [cc, e4, nI_clamp (by omega)]; exact e1) (pk_eq (C c) 0 (fun e => H0 (fun f g => ?_) a14) (fun e0 => ?_))⟩
  · have := g.2
    rw [e, Nat.zero_testBit] at this
    exact absurd this (by decide)
  refine pk_loop (fun f i (s : Nat → Int32) => wX_joinAll_20 post (nI c) (nI (C c)) f (nI i) (nI n) (nI m) (-1) 0 fo a1 a2 a3 a4 a5 a6 a7 a8 a9 a10 a11 a12 a13 s) (fun i s => 1 ≤ i ∧ ∃ B', rn_rm n B' s ∧ rn_ech n B' ∧ ∀ f, rn_rows n B' f ↔ rn_rows n B f ∧ ∀ k, 1 ≤ k → k < i → rn_lin (C c) k (rn_ix (f (X c)) (f (Y c)) (f (Z c)))) 8 1 a14 (by omega) ⟨by omega, B, hB, hE, fun f => ⟨fun g => ⟨g, fun k k1 k2 => absurd k1 (by omega)⟩, fun g => g.1⟩⟩ ?_ ?_
  · intro f s h
    obtain ⟨_, B', h1, h2, h3⟩ := h
    refine pk_le 8 8 (fun _ => H1 B' s h1 h2 (fun f => ?_)) (fun z => absurd z (by omega))
    rw [h3 f, rn_lin_all c256 e0 hx (rn_ix_lt _ _ _)]
  · intro fu i s hi h hw
    obtain ⟨i1, B', h1, h2, h3⟩ := h
    refine pk_le 8 i (fun z => absurd z (by omega)) (fun _ => rn_parities c256 hi (fun S hS hSb => pk_eq S 3 (fun e => nm_r (nI_1 i) (hw s ⟨by omega, B', h1, h2, fun f => ?_⟩)) (fun e => ?_)))
    · rw [h3 f]
      refine ⟨fun g => ⟨g.1, fun k k1 k2 => ?_⟩, fun g => ⟨g.1, fun k k1 k2 => g.2 k k1 (by omega)⟩⟩
      by_cases ek : k = i
      · intro β hβ
        rw [ek] at hβ
        obtain ⟨t, ht, hT, hp⟩ := (hSb (!β)).mp (by rw [e]; cases β <;> decide)
        have := hβ t ht hT
        rw [hp] at this
        exact absurd this (by cases β <;> decide)
      · exact g.2 k k1 (by omega)
    · obtain ⟨t0, t08, hT0⟩ := rn_bitsw c256 e0
      have S0 : S ≠ 0 := by
        intro z
        have := (hSb (rn_pb t0 i)).mpr ⟨t0, t08, hT0, rfl⟩
        rw [z, Nat.zero_testBit] at this
        exact absurd this (by decide)
      obtain ⟨s1, s2⟩ := rn_S12 S hS e S0
      generalize hβ : S.testBit 1 = β at s1 s2
      have all : ∀ t, t < 8 → (C c).testBit t = true → rn_pb t i = β := by
        intro t ht hT
        have := (hSb (rn_pb t i)).mpr ⟨t, ht, hT, rfl⟩
        cases g : rn_pb t i
        · rw [g] at this
          have t' : S.testBit 0 = true := this
          rw [s2] at t'
          revert t'
          cases β <;> decide
        · rw [g] at this
          have t' : S.testBit 1 = true := this
          rw [hβ] at t'
          exact t'.symm
      have lin : ∀ t, rn_lin (C c) i t ↔ rn_pb t i = β := by
        intro t
        constructor
        · intro g
          exact g β all
        · intro g γ hγ
          rw [g, ← all t0 t08 hT0]
          exact hγ t0 t08 hT0
      have row := fun f => rn_roweq (β := β) (f := f) n8 (rn_lo3 (p := i.testBit 2) (q := i.testBit 1) (r := i.testBit 0) vx vy vz f).1
      have eqn : ∀ f, rn_eqn n (rn_lo (X c) (Y c) (Z c) (i.testBit 2) (i.testBit 1) (i.testBit 0) ||| β.toNat * 256) f ↔ rn_lin (C c) i (rn_ix (f (X c)) (f (Y c)) (f (Z c))) := by
        intro f
        rw [(row f).2, (rn_lo3 vx vy vz f).2, lin, rn_pb_ix _ _ _ i hi]
      have fin : ∀ w : Nat, w = rn_lo (X c) (Y c) (Z c) (i.testBit 2) (i.testBit 1) (i.testBit 0) → wX_joinAll_112 post (wX_joinAll_20 post (nI c) (nI (C c)) fu) (nI c) (nI (C c)) (nI i) (nI S) (nI w) (nI n) (nI m) (-1) 0 fo a1 a2 a3 a4 a5 a6 a7 a8 a9 a10 a11 a12 a13 s := by
        intro w hw'
        subst hw'
        unfold wX_joinAll_112
        rw [rn_hi8 S hS, rn_or, s1]
        refine rn_jn n8 h1 h2 (row (fun _ => false)).1 (fun B2 b14 k1 k2 k3 => br_f (by decide) (nm_r (nI_1 i) (hw b14 ⟨by omega, B2, k1, k2, fun f => ?_⟩))) (fun k => br_t rfl (H0 (fun f g => k f ⟨(h3 f).mpr ⟨g.1, fun k k1 k2 => ?_⟩, (eqn f).mpr ?_⟩) s))
        · rw [k3 f, h3 f, eqn f]
          refine ⟨fun g => ⟨g.1.1, fun k k1 k2 => ?_⟩, fun g => ⟨⟨g.1, fun k k1 k2 => g.2 k k1 (by omega)⟩, g.2 i i1 (by omega)⟩⟩
          by_cases ek : k = i
          · rw [ek]; exact g.2
          · exact g.1.2 k k1 (by omega)
        · exact (rn_lin_all c256 e0 hx (rn_ix_lt _ _ _)).mpr g.2 k k1 (by omega)
        · exact (rn_lin_all c256 e0 hx (rn_ix_lt _ _ _)).mpr g.2 i i1 hi
      obtain ⟨m4, m2, m1⟩ := rn_m421 i hi
      have sx : (1 : Int32) <<< (a5 (nI c).toNatClampNeg &&& 31) = nI (2 ^ X c) := by rw [cc, e5, rn_shl1 (by omega)]
      have sy : (1 : Int32) <<< (a6 (nI c).toNatClampNeg &&& 31) = nI (2 ^ Y c) := by rw [cc, e6, rn_shl1 (by omega)]
      have sz : (1 : Int32) <<< (a7 (nI c).toNatClampNeg &&& 31) = nI (2 ^ Z c) := by rw [cc, e7, rn_shl1 (by omega)]
      have g88 : ∀ w : Nat, w = ((if i.testBit 2 = true then 2 ^ X c else 0) ^^^ (if i.testBit 1 = true then 2 ^ Y c else 0)) → wX_joinAll_88 post (wX_joinAll_20 post (nI c) (nI (C c)) fu) (nI c) (nI (C c)) (nI i) (nI S) (nI w) (nI n) (nI m) (-1) 0 fo a1 a2 a3 a4 a5 a6 a7 a8 a9 a10 a11 a12 a13 s := by
        intro w hw'
        unfold wX_joinAll_88
        rw [sz, rn_xor]
        refine ek_if m1 (fun g => fin _ ?_) (fun g => ⟨c20, fin _ ?_⟩)
        · unfold rn_lo
          rw [g, hw']
          show _ = _ ^^^ 0
          rw [Nat.xor_zero]
        · have g' : i.testBit 0 = true := by
            cases e' : i.testBit 0
            · exact absurd e' g
            · rfl
          unfold rn_lo
          rw [g', hw']
          rfl
      have g64 : ∀ w : Nat, w = (if i.testBit 2 = true then 2 ^ X c else 0) → wX_joinAll_64 post (wX_joinAll_20 post (nI c) (nI (C c)) fu) (nI c) (nI (C c)) (nI i) (nI S) (nI w) (nI n) (nI m) (-1) 0 fo a1 a2 a3 a4 a5 a6 a7 a8 a9 a10 a11 a12 a13 s := by
        intro w hw'
        unfold wX_joinAll_64
        rw [sy, rn_xor]
        refine ek_if m2 (fun g => g88 _ ?_) (fun g => ⟨c20, g88 _ ?_⟩)
        · rw [g, hw']
          show _ = _ ^^^ 0
          rw [Nat.xor_zero]
        · have g' : i.testBit 1 = true := by
            cases e' : i.testBit 1
            · exact absurd e' g
            · rfl
          rw [g', hw']
          rfl
      rw [sx]
      refine ek_if m4 (fun g => g64 0 ?_) (fun g => ⟨c20, ?_⟩)
      · rw [g]; rfl
      · have g' : i.testBit 2 = true := by
          cases e' : i.testBit 2
          · exact absurd e' g
          · rfl
        have := g64 (2 ^ X c) (by rw [g']; rfl)
        rw [show (0 : Int32) ^^^ nI (2 ^ X c) = nI (2 ^ X c) from (rn_xor 0 (2 ^ X c)).trans (by rw [Nat.zero_xor])]
        exact this
end
end
section
/-! part 11: eliminate, rank -/
section
variable {n m : Nat} {fo : Int32} {a1 a2 a3 a4 a5 a6 a7 a8 a9 a10 a11 a12 a13 a14 : Nat → Int32} {K R C X Y Z D B : Nat → Nat}
theorem rn_d12 : ∀ d, d < 4 → d ≠ 0 → d ≠ 3 → d / 2 = (d.testBit 1).toNat ∧ ∀ b : Bool, (d.testBit b.toNat = true ↔ b = d.testBit 1) := by decide
theorem rn_e84 {post : Int32 → St2 → Prop} (hC : rn_core n m K R C X Y Z a1 a2 a3 a4 a5 a6 a7) (hx : ∀ c, c < m → rn_xc (C c)) (hB : rn_rm n B a14) (hE : rn_ech n B) (hS : ∀ f, rn_rows n B f ↔ ∀ v, v < n → (D v).testBit (f v).toNat = true)
    (H1 : ∀ B' b14, rn_rm n B' b14 → rn_ech n B' → (∀ f, rn_rows n B' f ↔ rn_sat n m C X Y Z D f) → post 1 (nI n, nI m, -1, 0, fo, a1, a2, a3, a4, a5, a6, a7, a8, a9, a10, a11, a12, a13, b14))
    (H0 : (¬ ∃ f, rn_sat n m C X Y Z D f) → ∀ b14, post 0 (nI n, nI m, -1, 0, fo, a1, a2, a3, a4, a5, a6, a7, a8, a9, a10, a11, a12, a13, b14)) : ∃ fu, wX_eliminate_84 post fu 0 (nI n) (nI m) (-1) 0 fo a1 a2 a3 a4 a5 a6 a7 a8 a9 a10 a11 a12 a13 a14 := by
  have m20 := hC.1.2.2
  refine pk_loop (fun f i (s : Nat → Int32) => wX_eliminate_84 post f (nI i) (nI n) (nI m) (-1) 0 fo a1 a2 a3 a4 a5 a6 a7 a8 a9 a10 a11 a12 a13 s) (fun i s => ∃ B', rn_rm n B' s ∧ rn_ech n B' ∧ ∀ f, rn_rows n B' f ↔ (∀ v, v < n → (D v).testBit (f v).toNat = true) ∧ ∀ c, c < i → (C c).testBit (rn_ix (f (X c)) (f (Y c)) (f (Z c))) = true) m 0 a14 (by omega) ⟨B, hB, hE, fun f => ⟨fun g => ⟨(hS f).mp g, fun c hc => absurd hc (by omega)⟩, fun g => (hS f).mpr g.1⟩⟩ ?_ ?_
  · intro f s h
    obtain ⟨B', h1, h2, h3⟩ := h
    exact pk_le m m (fun _ => H1 B' s h1 h2 h3) (fun z => absurd z (by omega))
  · intro f i s hi h hw
    obtain ⟨B', h1, h2, h3⟩ := h
    refine pk_le m i (fun z => absurd z (by omega)) (fun _ => br_f (rn_ne1 (by omega)) (rn_joinAll hC hi (hx i hi) h1 h2 (fun B2 b14 k1 k2 k3 => br_f (by decide) (nm_r (nI_1 i) (hw b14 ⟨B2, k1, k2, fun f => ?_⟩))) (fun k b14 => br_t rfl (H0 (fun ⟨f, hf⟩ => k f ⟨(h3 f).mpr ⟨hf.1, fun c hc => hf.2 c (by omega)⟩, hf.2 i hi⟩) b14))))
    rw [k3 f, h3 f]
    refine ⟨fun g => ⟨g.1.1, fun c hc => ?_⟩, fun g => ⟨⟨g.1, fun c hc => g.2 c (by omega)⟩, g.2 i (by omega)⟩⟩
    by_cases e : c = i
    · rw [e]; exact g.2
    · exact g.1.2 c (by omega)
theorem rn_e23 {post : Int32 → St2 → Prop} (hC : rn_core n m K R C X Y Z a1 a2 a3 a4 a5 a6 a7) (hD : rn_dm n D a9) (hx : ∀ c, c < m → rn_xc (C c)) (hz : ∀ v, v < n → a14 v = 0)
    (H1 : ∀ B' b14, rn_rm n B' b14 → rn_ech n B' → (∀ f, rn_rows n B' f ↔ rn_sat n m C X Y Z D f) → post 1 (nI n, nI m, -1, 0, fo, a1, a2, a3, a4, a5, a6, a7, a8, a9, a10, a11, a12, a13, b14))
    (H0 : (¬ ∃ f, rn_sat n m C X Y Z D f) → ∀ b14, post 0 (nI n, nI m, -1, 0, fo, a1, a2, a3, a4, a5, a6, a7, a8, a9, a10, a11, a12, a13, b14)) : ∃ fu, wX_eliminate_23 post fu 0 (nI n) (nI m) (-1) 0 fo a1 a2 a3 a4 a5 a6 a7 a8 a9 a10 a11 a12 a13 a14 := by
  have n8 := hC.1.2.1
  refine pk_loop (fun f i (s : Nat → Int32) => wX_eliminate_23 post f (nI i) (nI n) (nI m) (-1) 0 fo a1 a2 a3 a4 a5 a6 a7 a8 a9 a10 a11 a12 a13 s) (fun i s => ∃ B', rn_rm n B' s ∧ rn_ech n B' ∧ ∀ f, rn_rows n B' f ↔ ∀ v, v < i → (D v).testBit (f v).toNat = true) n 0 a14 (by omega) ⟨fun _ => 0, fun v hv => hz v hv, fun v _ => ⟨fun u _ _ => Nat.zero_testBit u, fun u _ => Nat.zero_testBit u, fun g => absurd rfl g⟩, fun f => ⟨fun _ v hv => absurd hv (by omega), fun _ v _ => rn_eqn_0 n f⟩⟩ ?_ ?_
  · intro f s h
    obtain ⟨B', h1, h2, h3⟩ := h
    exact pk_le n n (fun _ => rn_e84 hC hx h1 h2 h3 H1 H0) (fun z => absurd z (by omega))
  · intro f i s hi h hw
    obtain ⟨B', h1, h2, h3⟩ := h
    have d4 := (hD i hi).2
    refine pk_le n i (fun z => absurd z (by omega)) (fun _ => ⟨pk_in i 8 (by omega), ?_⟩)
    rw [nI_clamp (show i < 2 ^ 31 by omega), (hD i hi).1]
    refine pk_eq (D i) 0 (fun e => H0 (fun ⟨f, hf⟩ => ?_) s) (fun e0 => ⟨pk_in i 8 (by omega), pk_eq (D i) 3 (fun e3 => nm_r (nI_1 i) (hw s ⟨B', h1, h2, fun f => ?_⟩)) (fun e3 => ⟨pk_in i 8 (by omega), ?_⟩)⟩)
    · have := hf.1 i hi
      rw [e, Nat.zero_testBit] at this
      exact absurd this (by decide)
    · rw [h3 f]
      refine ⟨fun g v hv => ?_, fun g v hv => g v (by omega)⟩
      by_cases e : v = i
      · rw [e, e3]
        cases f i <;> decide
      · exact g v (by omega)
    · obtain ⟨d1, d2⟩ := rn_d12 (D i) d4 e0 e3
      rw [rn_hi8 _ d4, rn_shl1 (by omega), rn_or, d1]
      have row := fun f => rn_roweq (β := (D i).testBit 1) (f := f) n8 (fun u hu => (Nat.testBit_two_pow_of_ne (show i ≠ u by omega)))
      have eqn : ∀ f, rn_eqn n (2 ^ i ||| ((D i).testBit 1).toNat * 256) f ↔ (D i).testBit (f i).toNat = true := by
        intro f
        rw [(row f).2, rn_par_1 hi, d2 (f i)]
      refine rn_jn n8 h1 h2 (row (fun _ => false)).1 (fun B2 b14 k1 k2 k3 => br_f (by decide) (nm_r (nI_1 i) (hw b14 ⟨B2, k1, k2, fun f => ?_⟩))) (fun k => br_t rfl (H0 (fun ⟨f, hf⟩ => k f ⟨(h3 f).mpr (fun v hv => hf.1 v (by omega)), (eqn f).mpr (hf.1 i hi)⟩) s))
      rw [k3 f, h3 f, eqn f]
      refine ⟨fun g v hv => ?_, fun g => ⟨fun v hv => g v (by omega), g i (by omega)⟩⟩
      by_cases e : v = i
      · rw [e]; exact g.2
      · exact g.1 v (by omega)
theorem rn_eliminate {post : Int32 → St2 → Prop} (hC : rn_core n m K R C X Y Z a1 a2 a3 a4 a5 a6 a7) (hD : rn_dm n D a9) (hx : ∀ c, c < m → rn_xc (C c))
    (H1 : ∀ B' b14, rn_rm n B' b14 → rn_ech n B' → (∀ f, rn_rows n B' f ↔ rn_sat n m C X Y Z D f) → post 1 (nI n, nI m, -1, 0, fo, a1, a2, a3, a4, a5, a6, a7, a8, a9, a10, a11, a12, a13, b14))
    (H0 : (¬ ∃ f, rn_sat n m C X Y Z D f) → ∀ b14, post 0 (nI n, nI m, -1, 0, fo, a1, a2, a3, a4, a5, a6, a7, a8, a9, a10, a11, a12, a13, b14)) : wpX_eliminate post (nI n, nI m, -1, 0, fo, a1, a2, a3, a4, a5, a6, a7, a8, a9, a10, a11, a12, a13, a14) := by
  have n8 := hC.1.2.1
  refine pk_loop (fun f i (s : Nat → Int32) => wX_eliminate_2 post (nI n) (nI m) (-1) 0 fo f (nI i) a1 a2 a3 a4 a5 a6 a7 a8 a9 a10 a11 a12 a13 s) (fun i s => ∀ v, v < i → s v = 0) 8 0 a14 (by omega) (fun v hv => absurd hv (by omega)) ?_ ?_
  · intro f s h
    exact pk_le 8 8 (fun _ => rn_e23 hC hD hx (fun v hv => h v (by omega)) H1 H0) (fun z => absurd z (by omega))
  · intro f i s hi h hw
    refine pk_le 8 i (fun z => absurd z (by omega)) (fun _ => ⟨pk_in i 8 hi, ?_⟩)
    rw [nI_clamp (show i < 2 ^ 31 by omega)]
    exact nm_e (nm_r (nI_1 i) (hw _ (rn_fill (f := fun _ => 0) h rfl)))
theorem rn_rank {post : Int32 → Prop} (n8 : n ≤ 8) (hB : rn_rm n B a14) (hE : rn_ech n B) (H : post (nI (rn_rk B n))) : wpX_rank post (nI n, nI m, -1, 0, fo, a1, a2, a3, a4, a5, a6, a7, a8, a9, a10, a11, a12, a13, a14) := by
  refine pk_loop (σ := Unit) (fun f i _ => wX_rank_4 post (nI n) (nI m) (-1) 0 fo a1 a2 a3 a4 a5 a6 a7 a8 a9 a10 a11 a12 a13 a14 f (nI (rn_rk B i)) (nI i)) (fun _ _ => True) n 0 () (by omega) trivial (fun f _ _ => pk_le n n (fun _ => H) (fun z => absurd z (by omega))) ?_
  intro f i _ hi _ hw
  have lB := rn_rw_lt n8 (hE i hi).1
  refine pk_le n i (fun z => absurd z (by omega)) (fun _ => ⟨pk_in i 8 (by omega), ?_⟩)
  rw [nI_clamp (show i < 2 ^ 31 by omega), hB i hi]
  have W := hw () trivial
  refine pk_eq (B i) 0 (fun e => nm_r (nI_1 i) ?_) (fun e => nm_r (nI_1 _) (nm_r (nI_1 i) ?_))
  · have r : rn_rk B (i + 1) = rn_rk B i := by
      show rn_rk B i + _ = _
      rw [if_pos e]
      rfl
    rw [r] at W
    exact W
  · have r : rn_rk B (i + 1) = rn_rk B i + 1 := by
      show rn_rk B i + _ = _
      rw [if_neg e]
    rw [r] at W
    exact W
end
end
section
/-! part 12: forbid, forbidPairs, forbidOutside -/
def rn_gm (G : Nat → Nat) (a13 : Nat → Int32) : Prop := ∀ p, p < 16 → a13 p = nI (G p)
theorem rn_or_put {G : Nat → Nat} {p k a b : Nat} : rn_E (rn_put G p (G p ||| 2 ^ k)) a b ↔ rn_E G a b ∨ (a = p ∧ b = k) := by
  unfold rn_E
  by_cases e : a = p
  · rw [e, rn_put_s, Nat.testBit_or, Nat.testBit_two_pow, Bool.or_eq_true, decide_eq_true_iff]
    exact ⟨fun h => h.elim Or.inl (fun g => Or.inr ⟨rfl, g.symm⟩), fun h => h.elim Or.inl (fun g => Or.inr g.2.symm)⟩
  · rw [rn_put_n _ _ e]
    exact ⟨Or.inl, fun h => h.elim id (fun g => absurd g.1 e)⟩
theorem rn_gm_put {G : Nat → Nat} {a13 : Nat → Int32} {p d : Nat} {e : Int32} (h : rn_gm G a13) (he : e = nI d) : rn_gm (rn_put G p d) (upd a13 p e) := by
  intro v hv
  by_cases g : v = p
  · rw [g, pk_us, rn_put_s]; exact he
  · rw [pk_un g, rn_put_n _ _ g]; exact h v hv
theorem rn_b_put {G : Nat → Nat} {p d : Nat} (h : ∀ a, a < 16 → G a < 65536) (hd : d < 65536) : ∀ a, a < 16 → rn_put G p d a < 65536 := by
  intro v hv
  by_cases g : v = p
  · rw [g, rn_put_s]; exact hd
  · rw [rn_put_n _ _ g]; exact h v hv
section
variable {n m : Nat} {fo : Int32} {a1 a2 a3 a4 a5 a6 a7 a8 a9 a10 a11 a12 a13 a14 : Nat → Int32} {K R C X Y Z D G : Nat → Nat}
theorem rn_forbid {post : St2 → Prop} {p q : Nat} (hp : p < 16) (hq : q < 16) (hG : rn_gm G a13) (hb : ∀ a, a < 16 → G a < 65536) (H : ∀ G' b13, rn_gm G' b13 → rn_forb p q G G' → (∀ a, a < 16 → G' a < 65536) → post (nI n, nI m, -1, 0, fo, a1, a2, a3, a4, a5, a6, a7, a8, a9, a10, a11, a12, b13, a14)) : wpX_forbid post (nI n, nI m, -1, 0, fo, a1, a2, a3, a4, a5, a6, a7, a8, a9, a10, a11, a12, a13, a14) (nI p) (nI q) := by
  have p1 := (rn_x1 p hp).1
  have q1 := (rn_x1 q hq).1
  have ep : (nI p ^^^ 1 : Int32) = nI (p ^^^ 1) := rn_xor p 1
  have eq : (nI q ^^^ 1 : Int32) = nI (q ^^^ 1) := rn_xor q 1
  have h1 := rn_gm_put (p := p) (d := G p ||| 2 ^ (q ^^^ 1)) hG rfl
  have b1 := rn_b_put (p := p) hb (Nat.or_lt_two_pow (n := 16) (hb p hp) (Nat.pow_lt_pow_right (by omega) q1))
  refine ⟨pk_in p 16 hp, pk_in p 16 hp, nm_r (e' := upd a13 p (nI (G p ||| 2 ^ (q ^^^ 1)))) ?_ ⟨pk_in q 16 hq, pk_in q 16 hq, ?_⟩⟩
  · rw [nI_clamp (by omega), eq, rn_shl1 (by omega), hG p hp, rn_or]
  generalize e1 : rn_put G p (G p ||| 2 ^ (q ^^^ 1)) = G1 at h1 b1
  generalize upd a13 p (nI (G p ||| 2 ^ (q ^^^ 1))) = c1 at h1
  refine nm_r (e' := upd c1 q (nI (G1 q ||| 2 ^ (p ^^^ 1)))) ?_ (H (rn_put G1 q (G1 q ||| 2 ^ (p ^^^ 1))) _ (rn_gm_put h1 rfl) ?_ (rn_b_put b1 (Nat.or_lt_two_pow (n := 16) (b1 q hq) (Nat.pow_lt_pow_right (by omega) p1))))
  · rw [nI_clamp (by omega), ep, rn_shl1 (by omega), h1 q hq, rn_or]
  · intro a ha b hb'
    rw [rn_or_put, ← e1, rn_or_put, or_assoc]
theorem rn_p92 {post : St2 → Prop} {J3 : Int32 → Int32 → Int32 → Int32 → Int32 → Int32 → (Nat → Int32) → (Nat → Int32) → (Nat → Int32) → (Nat → Int32) → (Nat → Int32) → (Nat → Int32) → (Nat → Int32) → (Nat → Int32) → (Nat → Int32) → (Nat → Int32) → (Nat → Int32) → (Nat → Int32) → (Nat → Int32) → (Nat → Int32) → Prop} {J : Int32 → Int32 → Prop} {x2 x3 x4 x5 x6 x7 x8 z0 : Int32} {T s t : Nat} {z : Bool} (hz : z0 = nI z.toNat) (hs : s ≤ 1) (ht : t < 8) (hT : T < 256)
    (H1 : (s = 1 ∨ (z = true ∧ T.testBit t = true)) → J (nI 1) (nI (t + 1))) (H0 : ¬ (s = 1 ∨ (z = true ∧ T.testBit t = true)) → J (nI 0) (nI (t + 1))) :
    wX_forbidPairs_92 post J3 J (nI T) x2 x3 x4 x5 x6 x7 x8 (nI s) (nI t) z0 (nI n) (nI m) (-1) 0 fo a1 a2 a3 a4 a5 a6 a7 a8 a9 a10 a11 a12 a13 a14 := by
  subst hz
  refine pk_eq s 0 (fun e => ?_) (fun e => nm_r (nI_1 t) (H1 (Or.inl (by omega))))
  cases z
  · exact br_t rfl (nm_r (nI_1 t) (H0 (fun k => k.elim (fun g => by omega) (fun g => absurd g.1 (by decide)))))
  · refine br_f (by decide) (rn_hs T t (by omega) (by omega) (fun g => nm_r (nI_1 t) (H1 (Or.inr ⟨rfl, g⟩))) (fun g => nm_r (nI_1 t) (H0 (fun k => ?_))))
    rcases k with k | k
    · omega
    · exact absurd (k.2.symm.trans g) (by decide)
/-- some triple of the table has the two values -/
def rn_seen (T wA wB : Nat) (α β : Bool) : Prop := ∃ t, t < 8 ∧ T.testBit t = true ∧ decide (t &&& wA ≠ 0) = α ∧ decide (t &&& wB ≠ 0) = β
theorem rn_p27 {post : St2 → Prop} {J3 : Int32 → Int32 → Int32 → Int32 → Int32 → Int32 → (Nat → Int32) → (Nat → Int32) → (Nat → Int32) → (Nat → Int32) → (Nat → Int32) → (Nat → Int32) → (Nat → Int32) → (Nat → Int32) → (Nat → Int32) → (Nat → Int32) → (Nat → Int32) → (Nat → Int32) → (Nat → Int32) → (Nat → Int32) → Prop} {T wA wB u v k : Nat} {α β : Bool} (hT : T < 256) (hA : wA < 8) (hB : wB < 8) (hn : n ≤ 8) (hu : u < n) (hv : v < n) (hG : rn_gm G a13) (hb : ∀ a, a < 16 → G a < 65536)
    (H1 : rn_seen T wA wB α β → J3 (nI (k + 1)) (nI n) (nI m) (-1) 0 fo a1 a2 a3 a4 a5 a6 a7 a8 a9 a10 a11 a12 a13 a14)
    (H0 : ¬ rn_seen T wA wB α β → ∀ G' b13, rn_gm G' b13 → rn_forb (2 * u + α.toNat) (2 * v + β.toNat) G G' → (∀ a, a < 16 → G' a < 65536) → J3 (nI (k + 1)) (nI n) (nI m) (-1) 0 fo a1 a2 a3 a4 a5 a6 a7 a8 a9 a10 a11 a12 b13 a14) :
    ∃ fu, wX_forbidPairs_27 post J3 (nI T) (nI wA) (nI u) (nI wB) (nI v) (nI k) (nI α.toNat) (nI β.toNat) (nI n) (nI m) (-1) 0 fo a1 a2 a3 a4 a5 a6 a7 a8 a9 a10 a11 a12 a13 a14 fu 0 0 := by
  have α2 := rn_bool α
  have β2 := rn_bool β
  refine pk_loop (fun f i (s : Nat) => wX_forbidPairs_27 post J3 (nI T) (nI wA) (nI u) (nI wB) (nI v) (nI k) (nI α.toNat) (nI β.toNat) (nI n) (nI m) (-1) 0 fo a1 a2 a3 a4 a5 a6 a7 a8 a9 a10 a11 a12 a13 a14 f (nI s) (nI i)) (fun i s => s ≤ 1 ∧ (s = 1 ↔ ∃ t, t < i ∧ T.testBit t = true ∧ decide (t &&& wA ≠ 0) = α ∧ decide (t &&& wB ≠ 0) = β)) 8 0 0 (by omega) ⟨by omega, ⟨fun g => absurd g (by omega), fun ⟨t, ht, _⟩ => absurd ht (by omega)⟩⟩ ?_ ?_
  · intro f s h
    refine pk_le 8 8 (fun _ => pk_eq s 0 (fun e => ?_) (fun e => nm_r (nI_1 k) (H1 (h.2.mp (by omega))))) (fun z => absurd z (by omega))
    have eu : (2 : Int32) * nI u + nI α.toNat = nI (2 * u + α.toNat) := by
      show nI 2 * nI u + _ = _
      rw [pk_mul, nI_add]
    have ev : (2 : Int32) * nI v + nI β.toNat = nI (2 * v + β.toNat) := by
      show nI 2 * nI v + _ = _
      rw [pk_mul, nI_add]
    rw [eu, ev]
    exact rn_forbid (by omega) (by omega) hG hb (fun G' b13 g1 g2 g3 => nm_r (nI_1 k) (H0 (fun q => by have := h.2.mpr q; omega) G' b13 g1 g2 g3))
  · intro f i s hi h hw
    obtain ⟨s1, h2⟩ := h
    have J1 : (s = 1 ∨ ((decide (i &&& wA ≠ 0) = α ∧ decide (i &&& wB ≠ 0) = β) ∧ T.testBit i = true)) → wX_forbidPairs_27 post J3 (nI T) (nI wA) (nI u) (nI wB) (nI v) (nI k) (nI α.toNat) (nI β.toNat) (nI n) (nI m) (-1) 0 fo a1 a2 a3 a4 a5 a6 a7 a8 a9 a10 a11 a12 a13 a14 f (nI 1) (nI (i + 1)) := by
      intro g
      refine hw 1 ⟨by omega, fun _ => ?_, fun _ => rfl⟩
      rcases g with g | g
      · obtain ⟨t, t1, t2⟩ := h2.mp g
        exact ⟨t, by omega, t2⟩
      · exact ⟨i, by omega, g.2, g.1⟩
    have J0 : ¬ (s = 1 ∨ ((decide (i &&& wA ≠ 0) = α ∧ decide (i &&& wB ≠ 0) = β) ∧ T.testBit i = true)) → wX_forbidPairs_27 post J3 (nI T) (nI wA) (nI u) (nI wB) (nI v) (nI k) (nI α.toNat) (nI β.toNat) (nI n) (nI m) (-1) 0 fo a1 a2 a3 a4 a5 a6 a7 a8 a9 a10 a11 a12 a13 a14 f (nI 0) (nI (i + 1)) := by
      intro g
      refine hw 0 ⟨by omega, fun q => absurd q (by omega), fun ⟨t, t1, t2, t3⟩ => ?_⟩
      by_cases e : t = i
      · rw [e] at t2 t3
        exact absurd (Or.inr ⟨t3, t2⟩) g
      · exact absurd (Or.inl (h2.mpr ⟨t, by omega, t2, t3⟩)) g
    have A8 : i &&& wA < 2 ^ 31 := Nat.lt_of_le_of_lt Nat.and_le_left (by omega)
    have B8 : i &&& wB < 2 ^ 31 := Nat.lt_of_le_of_lt Nat.and_le_left (by omega)
    generalize hγ : decide (i &&& wA ≠ 0) = γ at J1 J0
    generalize hδ : decide (i &&& wB ≠ 0) = δ at J1 J0
    have g92 : ∀ z : Bool, (z = true ↔ (γ = α ∧ δ = β)) → wX_forbidPairs_92 post J3 (wX_forbidPairs_27 post J3 (nI T) (nI wA) (nI u) (nI wB) (nI v) (nI k) (nI α.toNat) (nI β.toNat) (nI n) (nI m) (-1) 0 fo a1 a2 a3 a4 a5 a6 a7 a8 a9 a10 a11 a12 a13 a14 f) (nI T) (nI wA) (nI u) (nI wB) (nI v) (nI k) (nI α.toNat) (nI β.toNat) (nI s) (nI i) (nI z.toNat) (nI n) (nI m) (-1) 0 fo a1 a2 a3 a4 a5 a6 a7 a8 a9 a10 a11 a12 a13 a14 := by
      intro z hz
      refine rn_p92 (z := z) rfl s1 hi hT (fun g => J1 ?_) (fun g => J0 ?_)
      · rw [← hz]; exact g
      · rw [← hz]; exact g
    have g91 : ¬ (γ = α ∧ δ = β) → wX_forbidPairs_91 post J3 (wX_forbidPairs_27 post J3 (nI T) (nI wA) (nI u) (nI wB) (nI v) (nI k) (nI α.toNat) (nI β.toNat) (nI n) (nI m) (-1) 0 fo a1 a2 a3 a4 a5 a6 a7 a8 a9 a10 a11 a12 a13 a14 f) (nI T) (nI wA) (nI u) (nI wB) (nI v) (nI k) (nI α.toNat) (nI β.toNat) (nI s) (nI i) (nI n) (nI m) (-1) 0 fo a1 a2 a3 a4 a5 a6 a7 a8 a9 a10 a11 a12 a13 a14 :=
      fun g => g92 false ⟨fun q => absurd q (by decide), fun q => absurd q g⟩
    have g84 : γ = α → wX_forbidPairs_84 post J3 (wX_forbidPairs_27 post J3 (nI T) (nI wA) (nI u) (nI wB) (nI v) (nI k) (nI α.toNat) (nI β.toNat) (nI n) (nI m) (-1) 0 fo a1 a2 a3 a4 a5 a6 a7 a8 a9 a10 a11 a12 a13 a14 f) (nI T) (nI wA) (nI u) (nI wB) (nI v) (nI k) (nI α.toNat) (nI β.toNat) (nI s) (nI i) (nI β.toNat) (nI δ.toNat) (nI n) (nI m) (-1) 0 fo a1 a2 a3 a4 a5 a6 a7 a8 a9 a10 a11 a12 a13 a14 := by
      intro g
      have δ2 := rn_bool δ
      exact pk_eq δ.toNat β.toNat (fun e => g92 true ⟨fun _ => ⟨g, (rn_tn δ β).mp e⟩, fun _ => rfl⟩) (fun e => g91 (fun q => e (by rw [q.2])))
    have g73 : γ = α → wX_forbidPairs_73 post J3 (wX_forbidPairs_27 post J3 (nI T) (nI wA) (nI u) (nI wB) (nI v) (nI k) (nI α.toNat) (nI β.toNat) (nI n) (nI m) (-1) 0 fo a1 a2 a3 a4 a5 a6 a7 a8 a9 a10 a11 a12 a13 a14 f) (nI T) (nI wA) (nI u) (nI wB) (nI v) (nI k) (nI α.toNat) (nI β.toNat) (nI s) (nI i) (nI δ.toNat) (nI n) (nI m) (-1) 0 fo a1 a2 a3 a4 a5 a6 a7 a8 a9 a10 a11 a12 a13 a14 := by
      intro g
      have t := g84 g
      clear g92 g91 g84 J1 J0 hw h2 H1 H0
      cases β
      · exact br_f (by decide) t
      · exact br_t rfl t
    have g57 : wX_forbidPairs_57 post J3 (wX_forbidPairs_27 post J3 (nI T) (nI wA) (nI u) (nI wB) (nI v) (nI k) (nI α.toNat) (nI β.toNat) (nI n) (nI m) (-1) 0 fo a1 a2 a3 a4 a5 a6 a7 a8 a9 a10 a11 a12 a13 a14 f) (nI T) (nI wA) (nI u) (nI wB) (nI v) (nI k) (nI α.toNat) (nI β.toNat) (nI s) (nI i) (nI α.toNat) (nI γ.toNat) (nI n) (nI m) (-1) 0 fo a1 a2 a3 a4 a5 a6 a7 a8 a9 a10 a11 a12 a13 a14 := by
      have γ2 := rn_bool γ
      refine pk_eq γ.toNat α.toNat (fun e => ?_) (fun e => g91 (fun q => e (by rw [q.1])))
      have t := g73 ((rn_tn γ α).mp e)
      clear g92 g91 g84 g73 J1 J0 hw h2 H1 H0
      refine pk_eq (i &&& wB) 0 (fun q => ?_) (fun q => ?_) (rn_and i wB) rfl B8 (by omega)
      · have hδ' : false = δ := by rw [← hδ, q]; rfl
        subst hδ'
        exact t
      · have hδ' : true = δ := by rw [← hδ, decide_eq_true q]
        subst hδ'
        exact t
    have g46 : wX_forbidPairs_46 post J3 (wX_forbidPairs_27 post J3 (nI T) (nI wA) (nI u) (nI wB) (nI v) (nI k) (nI α.toNat) (nI β.toNat) (nI n) (nI m) (-1) 0 fo a1 a2 a3 a4 a5 a6 a7 a8 a9 a10 a11 a12 a13 a14 f) (nI T) (nI wA) (nI u) (nI wB) (nI v) (nI k) (nI α.toNat) (nI β.toNat) (nI s) (nI i) (nI γ.toNat) (nI n) (nI m) (-1) 0 fo a1 a2 a3 a4 a5 a6 a7 a8 a9 a10 a11 a12 a13 a14 := by
      clear g92 g91 g84 g73 J1 J0 hw h2 H1 H0
      cases α
      · exact br_f (by decide) g57
      · exact br_t rfl g57
    clear g92 g91 g84 g73 g57 J1 J0 hw h2 H1 H0
    refine pk_le 8 i (fun z => absurd z (by omega)) (fun _ => pk_eq (i &&& wA) 0 (fun q => ?_) (fun q => ?_) (rn_and i wA) rfl A8 (by omega))
    · have hγ' : false = γ := by rw [← hγ, q]; rfl
      subst hγ'
      exact g46
    · have hγ' : true = γ := by rw [← hγ, decide_eq_true q]
      subst hγ'
      exact g46
theorem rn_lit2 {f : Nat → Bool} {u : Nat} {α : Bool} : rn_lit f (2 * u + α.toNat) ↔ f u = α := by
  unfold rn_lit
  cases α
  · show f ((2 * u + 0) / 2) = decide ((2 * u + 0) % 2 = 1) ↔ _
    rw [show (2 * u + 0) / 2 = u by omega, show (2 * u + 0) % 2 = 0 by omega]
    exact Iff.rfl
  · show f ((2 * u + 1) / 2) = decide ((2 * u + 1) % 2 = 1) ↔ _
    rw [show (2 * u + 1) / 2 = u by omega, show (2 * u + 1) % 2 = 1 by omega]
    exact Iff.rfl
theorem rn_k4 : ∀ k, k < 4 → nI k >>> ((1 : Int32) &&& 31) = nI (k.testBit 1).toNat ∧ nI k &&& 1 = nI (k.testBit 0).toNat := by decide +kernel
theorem rn_forbidPairs {post : St2 → Prop} {T wA wB u v : Nat} (hT : T < 256) (hA : wA < 8) (hB : wB < 8) (hn : n ≤ 8) (hu : u < n) (hv : v < n) (hG : rn_gm G a13) (hg : rn_good n G)
    (H : ∀ G' b13, rn_gm G' b13 → rn_good n G' → (∀ f, rn_resp G' f ↔ rn_resp G f ∧ rn_seen T wA wB (f u) (f v)) → post (nI n, nI m, -1, 0, fo, a1, a2, a3, a4, a5, a6, a7, a8, a9, a10, a11, a12, b13, a14)) : wpX_forbidPairs post (nI n, nI m, -1, 0, fo, a1, a2, a3, a4, a5, a6, a7, a8, a9, a10, a11, a12, a13, a14) (nI T) (nI wA) (nI u) (nI wB) (nI v) := by
  refine pk_loop (fun f i (s : Nat → Int32) => wX_forbidPairs_3 post (nI T) (nI wA) (nI u) (nI wB) (nI v) f (nI i) (nI n) (nI m) (-1) 0 fo a1 a2 a3 a4 a5 a6 a7 a8 a9 a10 a11 a12 s a14) (fun i s => ∃ G', rn_gm G' s ∧ rn_good n G' ∧ ∀ f, rn_resp G' f ↔ rn_resp G f ∧ ∀ k, k < i → f u = k.testBit 1 → f v = k.testBit 0 → rn_seen T wA wB (k.testBit 1) (k.testBit 0)) 4 0 a13 (by omega) ⟨G, hG, hg, fun f => ⟨fun g => ⟨g, fun k hk => absurd hk (by omega)⟩, fun g => g.1⟩⟩ ?_ ?_
  · intro f s h
    obtain ⟨G', h1, h2, h3⟩ := h
    refine pk_le 4 4 (fun _ => H G' s h1 h2 (fun f => ?_)) (fun z => absurd z (by omega))
    rw [h3 f]
    have all : ∀ a b : Bool, (2 * a.toNat + b.toNat) < 4 ∧ (2 * a.toNat + b.toNat).testBit 1 = a ∧ (2 * a.toNat + b.toNat).testBit 0 = b := by decide
    refine ⟨fun g => ⟨g.1, ?_⟩, fun g => ⟨g.1, fun k hk e1 e2 => ?_⟩⟩
    · obtain ⟨q1, q2, q3⟩ := all (f u) (f v)
      have := g.2 _ q1 q2.symm q3.symm
      rw [q2, q3] at this
      exact this
    · rw [← e1, ← e2]; exact g.2
  · intro fu i s hi h hw
    obtain ⟨G', h1, h2, h3⟩ := h
    obtain ⟨e1, e2⟩ := rn_k4 i hi
    have s2 : ∀ {P : Nat → Prop}, (∀ k, k < i + 1 → P k) ↔ (∀ k, k < i → P k) ∧ P i := by
      intro P
      refine ⟨fun g => ⟨fun k hk => g k (by omega), g i (by omega)⟩, fun g k hk => ?_⟩
      by_cases e : k = i
      · rw [e]; exact g.2
      · exact g.1 k (by omega)
    refine pk_le 4 i (fun z => absurd z (by omega)) (fun _ => nm_r e1 (nm_r e2 (rn_p27 hT hA hB hn hu hv h1 h2.1 (fun g => hw s ⟨G', h1, h2, fun f => ?_⟩) (fun g G2 b13 k1 k2 k3 => hw b13 ⟨G2, k1, ?_, fun f => ?_⟩))))
    · rw [h3 f, s2]
      exact ⟨fun q => ⟨q.1, q.2, fun _ _ => g⟩, fun q => ⟨q.1, q.2.1⟩⟩
    · have b1 := rn_bool (i.testBit 1)
      have b0 := rn_bool (i.testBit 0)
      exact rn_forb_good hn (by omega) (by omega) h2 k2 k3
    · have b1 := rn_bool (i.testBit 1)
      have b0 := rn_bool (i.testBit 0)
      rw [rn_forb_resp (by omega) (by omega) k2, h3 f, s2, rn_lit2, rn_lit2]
      exact ⟨fun q => ⟨q.1.1, q.1.2, fun z1 z2 => absurd ⟨z1, z2⟩ q.2⟩, fun q => ⟨⟨q.1, q.2.1⟩, fun z => g (q.2.2 z.1 z.2)⟩⟩
theorem rn_forbidOutside {post : St2 → Prop} {v : Nat} (hn : n ≤ 8) (hv : v < n) (hD : rn_dm n D a9) (hG : rn_gm G a13) (hg : rn_good n G)
    (H : ∀ G' b13, rn_gm G' b13 → rn_good n G' → (∀ f, rn_resp G' f ↔ rn_resp G f ∧ (D v).testBit (f v).toNat = true) → post (nI n, nI m, -1, 0, fo, a1, a2, a3, a4, a5, a6, a7, a8, a9, a10, a11, a12, b13, a14)) : wpX_forbidOutside post (nI n, nI m, -1, 0, fo, a1, a2, a3, a4, a5, a6, a7, a8, a9, a10, a11, a12, a13, a14) (nI v) := by
  have d4 := (hD v hv).2
  refine pk_loop (fun f i (s : Nat → Int32) => wX_forbidOutside_2 post (nI v) f (nI i) (nI n) (nI m) (-1) 0 fo a1 a2 a3 a4 a5 a6 a7 a8 a9 a10 a11 a12 s a14) (fun i s => ∃ G', rn_gm G' s ∧ rn_good n G' ∧ ∀ f, rn_resp G' f ↔ rn_resp G f ∧ ∀ k, k < i → (f v).toNat = k → (D v).testBit k = true) 2 0 a13 (by omega) ⟨G, hG, hg, fun f => ⟨fun g => ⟨g, fun k hk => absurd hk (by omega)⟩, fun g => g.1⟩⟩ ?_ ?_
  · intro f s h
    obtain ⟨G', h1, h2, h3⟩ := h
    refine pk_le 2 2 (fun _ => H G' s h1 h2 (fun f => ?_)) (fun z => absurd z (by omega))
    rw [h3 f]
    exact ⟨fun g => ⟨g.1, g.2 _ (rn_bool _) rfl⟩, fun g => ⟨g.1, fun k _ e => by rw [← e]; exact g.2⟩⟩
  · intro fu i s hi h hw
    obtain ⟨G', h1, h2, h3⟩ := h
    have s2 : ∀ {P : Nat → Prop}, (∀ k, k < i + 1 → P k) ↔ (∀ k, k < i → P k) ∧ P i := by
      intro P
      refine ⟨fun g => ⟨fun k hk => g k (by omega), g i (by omega)⟩, fun g k hk => ?_⟩
      by_cases e : k = i
      · rw [e]; exact g.2
      · exact g.1 k (by omega)
    refine pk_le 2 i (fun z => absurd z (by omega)) (fun _ => ⟨pk_in v 8 (by omega), rn_hs (D v) i (by omega) (by omega) (fun g => nm_r (nI_1 i) (hw s ⟨G', h1, h2, fun f => ?_⟩)) (fun g => ?_) (by rw [nI_clamp (by omega)]; exact (hD v hv).1)⟩)
    · rw [h3 f, s2]
      exact ⟨fun q => ⟨q.1, q.2, fun _ => g⟩, fun q => ⟨q.1, q.2.1⟩⟩
    · have ev : (2 : Int32) * nI v + nI i = nI (2 * v + i) := by
        show nI 2 * nI v + _ = _
        rw [pk_mul, nI_add]
      rw [ev]
      refine rn_forbid (by omega) (by omega) h1 h2.1 (fun G2 b13 k1 k2 k3 => nm_r (nI_1 i) (hw b13 ⟨G2, k1, rn_forb_good hn (by omega) (by omega) h2 k2 k3, fun f => ?_⟩))
      have el : rn_lit f (2 * v + i) ↔ (f v).toNat = i := by
        rcases (show i = 0 ∨ i = 1 by omega) with e | e
        · subst e
          exact (rn_lit2 (f := f) (u := v) (α := false)).trans (rn_tn (f v) false).symm
        · subst e
          exact (rn_lit2 (f := f) (u := v) (α := true)).trans (rn_tn (f v) true).symm
      rw [rn_forb_resp (by omega) (by omega) k2, h3 f, s2, el]
      exact ⟨fun q => ⟨q.1.1, q.1.2, fun z => absurd ⟨z, z⟩ q.2⟩, fun q => ⟨⟨q.1, q.2.1⟩, fun z => absurd ((q.2.2 z.1).symm.trans g) (by decide)⟩⟩
end
end
section
/-! part 13: closeLiterals -/
theorem rn_clo_c {mid : Nat} {E G G' : Nat → Nat} (he : ∀ a, a < 16 → G' a = G a) (h : rn_clo mid E G) (hm : mid ≤ 16) : rn_clo mid E G' := by
  have e : ∀ a, a < 16 → ∀ b, (rn_E G' a b ↔ rn_E G a b) := fun a ha b => by unfold rn_E; rw [he a ha]
  obtain ⟨h1, h2, h3⟩ := h
  refine ⟨fun j hj a ha b hb e1 e2 => (e a ha b).mpr (h1 j hj a ha b hb ((e a ha j).mp e1) ((e j (by omega) b).mp e2)), fun a ha b hb q => (e a ha b).mpr (h2 a ha b hb q), fun S hS hE a ha b hb q => h3 S hS hE a ha b hb ((e a ha b).mp q)⟩
section
variable {n m : Nat} {fo : Int32} {a1 a2 a3 a4 a5 a6 a7 a8 a9 a10 a11 a12 a13 a14 : Nat → Int32} {K R C X Y Z D G E : Nat → Nat} {post : Int32 → St2 → Prop}
theorem rn_c199 (n8 : n ≤ 8) (hG : rn_gm G a13) (hb : ∀ a, a < 16 → G a < 65536)
    (H1 : (∀ v, v < n → ¬ (rn_E G (2 * v) (2 * v + 1) ∧ rn_E G (2 * v + 1) (2 * v))) → post 1 (nI n, nI m, -1, 0, fo, a1, a2, a3, a4, a5, a6, a7, a8, a9, a10, a11, a12, a13, a14))
    (H0 : (∃ v, v < n ∧ rn_E G (2 * v) (2 * v + 1) ∧ rn_E G (2 * v + 1) (2 * v)) → post 0 (nI n, nI m, -1, 0, fo, a1, a2, a3, a4, a5, a6, a7, a8, a9, a10, a11, a12, a13, a14)) : ∃ fu, wX_closeLiterals_199 post (nI n) (nI m) (-1) 0 fo a1 a2 a3 a4 a5 a6 a7 a8 a9 a10 a11 a12 a13 a14 fu 0 := by
  refine pk_loop (σ := Unit) (fun f i _ => wX_closeLiterals_199 post (nI n) (nI m) (-1) 0 fo a1 a2 a3 a4 a5 a6 a7 a8 a9 a10 a11 a12 a13 a14 f (nI i)) (fun i _ => ∀ v, v < i → ¬ (rn_E G (2 * v) (2 * v + 1) ∧ rn_E G (2 * v + 1) (2 * v))) n 0 () (by omega) (fun v hv => absurd hv (by omega)) (fun f _ h => pk_le n n (fun _ => H1 h) (fun z => absurd z (by omega))) ?_
  intro f i _ hi h hw
  have e2 : (2 : Int32) * nI i = nI (2 * i) := pk_mul 2 i
  have e3 : (2 : Int32) * nI i + 1 = nI (2 * i + 1) := by rw [e2, nI_1]
  have b0 := hb (2 * i) (by omega)
  have b1 := hb (2 * i + 1) (by omega)
  have c0 : a13 ((2 : Int32) * nI i).toNatClampNeg = nI (G (2 * i)) := by rw [e2, nI_clamp (by omega)]; exact hG _ (by omega)
  have c1 : a13 ((2 : Int32) * nI i + 1).toNatClampNeg = nI (G (2 * i + 1)) := by rw [e3, nI_clamp (by omega)]; exact hG _ (by omega)
  have go : ¬ (rn_E G (2 * i) (2 * i + 1) ∧ rn_E G (2 * i + 1) (2 * i)) → wX_closeLiterals_199 post (nI n) (nI m) (-1) 0 fo a1 a2 a3 a4 a5 a6 a7 a8 a9 a10 a11 a12 a13 a14 f (nI (i + 1)) := by
    intro g
    refine hw () (fun v hv => ?_)
    by_cases e : v = i
    · rw [e]; exact g
    · exact h v (by omega)
  have nb : ∀ {u : Bool}, u = false → ¬ u = true := fun h g => absurd (h.symm.trans g) (by decide)
  exact pk_le n i (fun z => absurd z (by omega)) (fun _ => ⟨pk_in (2 * i) 16 (by omega) e2, rn_hs (G (2 * i)) (2 * i + 1) (by omega) (by omega) (fun g => ⟨pk_in (2 * i + 1) 16 (by omega) e3, rn_hs (G (2 * i + 1)) (2 * i) (by omega) (by omega) (fun g' => H0 ⟨i, hi, g, g'⟩) (fun g' => nm_r (nI_1 i) (go (fun q => nb g' q.2))) c1 e2⟩) (fun g => nm_r (nI_1 i) (go (fun q => nb g q.1))) c0 e3⟩)
theorem rn_c147 {J : Int32 → (Nat → Int32) → (Nat → Int32) → (Nat → Int32) → (Nat → Int32) → (Nat → Int32) → (Nat → Int32) → (Nat → Int32) → (Nat → Int32) → (Nat → Int32) → (Nat → Int32) → (Nat → Int32) → (Nat → Int32) → (Nat → Int32) → (Nat → Int32) → Prop} {mid : Nat} (hm : mid < 16) (hG : rn_gm G a13) (hb : ∀ a, a < 16 → G a < 65536)
    (H : ∀ G' b13, rn_gm G' b13 → (∀ a, a < 16 → G' a < 65536) → rn_war mid G G' → J (nI (mid + 1)) a1 a2 a3 a4 a5 a6 a7 a8 a9 a10 a11 a12 b13 a14) : ∃ fu, wX_closeLiterals_147 post J (nI mid) (nI n) (nI m) (-1) 0 fo fu 0 a1 a2 a3 a4 a5 a6 a7 a8 a9 a10 a11 a12 a13 a14 := by
  refine pk_loop (fun f i (s : Nat → Int32) => wX_closeLiterals_147 post J (nI mid) (nI n) (nI m) (-1) 0 fo f (nI i) a1 a2 a3 a4 a5 a6 a7 a8 a9 a10 a11 a12 s a14) (fun i s => ∃ G', rn_gm G' s ∧ (∀ a, a < 16 → G' a < 65536) ∧ ∀ a, a < 16 → ∀ b, b < 16 → (rn_E G' a b ↔ rn_E G a b ∨ (a < i ∧ rn_E G a mid ∧ rn_E G mid b))) 16 0 a13 (by omega) ⟨G, hG, hb, fun a _ b _ => ⟨Or.inl, fun g => g.elim id (fun q => absurd q.1 (by omega))⟩⟩ ?_ ?_
  · intro f s h
    obtain ⟨G', h1, h2, h3⟩ := h
    refine pk_le 16 16 (fun _ => nm_r (nI_1 mid) (H G' s h1 h2 (fun a ha b hb' => ?_))) (fun z => absurd z (by omega))
    rw [h3 a ha b hb']
    exact ⟨fun g => g.elim Or.inl (fun q => Or.inr q.2), fun g => g.elim Or.inl (fun q => Or.inr ⟨ha, q⟩)⟩
  · intro f i s hi h hw
    obtain ⟨G', h1, h2, h3⟩ := h
    have bi := h2 i hi
    refine pk_le 16 i (fun z => absurd z (by omega)) (fun _ => ⟨pk_in i 16 hi, rn_hs (G' i) mid (by omega) (by omega) (fun g => ⟨pk_in i 16 hi, pk_in mid 16 hm, pk_in i 16 hi, nm_r (e' := upd s i (nI (G' i ||| G' mid))) ?_ (nm_r (nI_1 i) (hw _ ⟨rn_put G' i (G' i ||| G' mid), rn_gm_put h1 rfl, rn_b_put h2 (Nat.or_lt_two_pow (n := 16) (h2 i hi) (h2 mid hm)), fun a ha b hb' => ?_⟩))⟩) (fun g => nm_r (nI_1 i) (hw s ⟨G', h1, h2, fun a ha b hb' => ?_⟩)) (by rw [nI_clamp (by omega)]; exact h1 i hi)⟩)
    · rw [nI_clamp (by omega), nI_clamp (by omega), h1 i hi, h1 mid hm, rn_or]
    · have gi : rn_E G i mid := by
        rcases (h3 i hi mid hm).mp g with q | q
        · exact q
        · exact absurd q.1 (by omega)
      have gm : rn_E G' mid b ↔ rn_E G mid b := by
        rw [h3 mid hm b hb']
        exact ⟨fun q => q.elim id (fun z => z.2.2), Or.inl⟩
      by_cases e : a = i
      · subst e
        have : rn_E (rn_put G' a (G' a ||| G' mid)) a b ↔ rn_E G' a b ∨ rn_E G' mid b := by
          unfold rn_E
          rw [rn_put_s, Nat.testBit_or, Bool.or_eq_true]
        rw [this, gm, h3 a ha b hb']
        refine ⟨fun q => ?_, fun q => ?_⟩
        · rcases q with (q | q) | q
          · exact Or.inl q
          · exact absurd q.1 (by omega)
          · exact Or.inr ⟨by omega, gi, q⟩
        · rcases q with q | q
          · exact Or.inl (Or.inl q)
          · exact Or.inr q.2.2
      · have : rn_E (rn_put G' i (G' i ||| G' mid)) a b ↔ rn_E G' a b := by
          unfold rn_E
          rw [rn_put_n _ _ e]
        rw [this, h3 a ha b hb']
        exact ⟨fun q => q.elim Or.inl (fun z => Or.inr ⟨by omega, z.2⟩), fun q => q.elim Or.inl (fun z => Or.inr ⟨by omega, z.2⟩)⟩
    · rw [h3 a ha b hb']
      refine ⟨fun q => q.elim Or.inl (fun z => Or.inr ⟨by omega, z.2⟩), fun q => ?_⟩
      rcases q with q | q
      · exact Or.inl q
      · by_cases e : a = i
        · subst e
          have := (h3 a ha mid hm).mpr (Or.inl q.2.1)
          exact absurd (g.symm.trans this) (by decide)
        · exact Or.inr ⟨by omega, q.2⟩
theorem rn_c139 (n8 : n ≤ 8) (hG : rn_gm E a13) (hg : rn_good n E)
    (H1 : (∃ f, rn_resp E f) → ∀ b13, post 1 (nI n, nI m, -1, 0, fo, a1, a2, a3, a4, a5, a6, a7, a8, a9, a10, a11, a12, b13, a14))
    (H0 : (¬ ∃ f, rn_resp E f) → ∀ b13, post 0 (nI n, nI m, -1, 0, fo, a1, a2, a3, a4, a5, a6, a7, a8, a9, a10, a11, a12, b13, a14)) : ∃ fu, wX_closeLiterals_139 post (nI n) (nI m) (-1) 0 fo fu 0 a1 a2 a3 a4 a5 a6 a7 a8 a9 a10 a11 a12 a13 a14 := by
  refine pk_loop (fun f i (s : Nat → Int32) => wX_closeLiterals_139 post (nI n) (nI m) (-1) 0 fo f (nI i) a1 a2 a3 a4 a5 a6 a7 a8 a9 a10 a11 a12 s a14) (fun i s => ∃ G, rn_gm G s ∧ (∀ a, a < 16 → G a < 65536) ∧ rn_clo i E G) 16 0 a13 (by omega) ⟨E, hG, hg.1, rn_clo_0 E⟩ ?_ ?_
  · intro f s h
    obtain ⟨G, h1, h2, h3⟩ := h
    exact pk_le 16 16 (fun _ => rn_c199 n8 h1 h2 (fun g => H1 (rn_clo_yes n8 hg h3 g) s) (fun ⟨v, hv, g1, g2⟩ => H0 (fun ⟨f, hf⟩ => rn_clo_no h3 hf (by omega) g1 g2) s)) (fun z => absurd z (by omega))
  · intro f i s hi h hw
    obtain ⟨G, h1, h2, h3⟩ := h
    exact pk_le 16 i (fun z => absurd z (by omega)) (fun _ => rn_c147 hi h1 h2 (fun G' b13 k1 k2 k3 => hw b13 ⟨G', k1, k2, rn_clo_s hi h3 k3⟩))
theorem rn_seen42 {T : Nat} {p q : Bool} : rn_seen T 4 2 p q ↔ ∃ r, T.testBit (rn_ix p q r) = true := by
  have w : ∀ p q r : Bool, decide (rn_ix p q r &&& 4 ≠ 0) = p ∧ decide (rn_ix p q r &&& 2 ≠ 0) = q := by decide
  constructor
  · rintro ⟨t, ht, h1, h2, h3⟩
    obtain ⟨a, b, c, rfl⟩ := rn_ix_of ht
    rw [(w a b c).1] at h2
    rw [(w a b c).2] at h3
    subst h2 h3
    exact ⟨c, h1⟩
  · rintro ⟨r, h⟩
    exact ⟨_, rn_ix_lt p q r, h, (w p q r).1, (w p q r).2⟩
theorem rn_seen41 {T : Nat} {p r : Bool} : rn_seen T 4 1 p r ↔ ∃ q, T.testBit (rn_ix p q r) = true := by
  have w : ∀ p q r : Bool, decide (rn_ix p q r &&& 4 ≠ 0) = p ∧ decide (rn_ix p q r &&& 1 ≠ 0) = r := by decide
  constructor
  · rintro ⟨t, ht, h1, h2, h3⟩
    obtain ⟨a, b, c, rfl⟩ := rn_ix_of ht
    rw [(w a b c).1] at h2
    rw [(w a b c).2] at h3
    subst h2 h3
    exact ⟨b, h1⟩
  · rintro ⟨q, h⟩
    exact ⟨_, rn_ix_lt p q r, h, (w p q r).1, (w p q r).2⟩
theorem rn_seen21 {T : Nat} {q r : Bool} : rn_seen T 2 1 q r ↔ ∃ p, T.testBit (rn_ix p q r) = true := by
  have w : ∀ p q r : Bool, decide (rn_ix p q r &&& 2 ≠ 0) = q ∧ decide (rn_ix p q r &&& 1 ≠ 0) = r := by decide
  constructor
  · rintro ⟨t, ht, h1, h2, h3⟩
    obtain ⟨a, b, c, rfl⟩ := rn_ix_of ht
    rw [(w a b c).1] at h2
    rw [(w a b c).2] at h3
    subst h2 h3
    exact ⟨a, h1⟩
  · rintro ⟨p, h⟩
    exact ⟨_, rn_ix_lt p q r, h, (w p q r).1, (w p q r).2⟩
theorem rn_c46 (hC : rn_core n m K R C X Y Z a1 a2 a3 a4 a5 a6 a7) (hx : ∀ c, c < m → rn_ma (C c)) (hG : rn_gm G a13) (hg : rn_good n G) (hS : ∀ f, rn_resp G f ↔ ∀ v, v < n → (D v).testBit (f v).toNat = true)
    (H1 : (∃ f, rn_sat n m C X Y Z D f) → ∀ b13, post 1 (nI n, nI m, -1, 0, fo, a1, a2, a3, a4, a5, a6, a7, a8, a9, a10, a11, a12, b13, a14))
    (H0 : (¬ ∃ f, rn_sat n m C X Y Z D f) → ∀ b13, post 0 (nI n, nI m, -1, 0, fo, a1, a2, a3, a4, a5, a6, a7, a8, a9, a10, a11, a12, b13, a14)) : ∃ fu, wX_closeLiterals_46 post fu 0 (nI n) (nI m) (-1) 0 fo a1 a2 a3 a4 a5 a6 a7 a8 a9 a10 a11 a12 a13 a14 := by
  obtain ⟨⟨n2, n8, m20⟩, hK, hv, hcs⟩ := hC
  refine pk_loop (fun f i (s : Nat → Int32) => wX_closeLiterals_46 post f (nI i) (nI n) (nI m) (-1) 0 fo a1 a2 a3 a4 a5 a6 a7 a8 a9 a10 a11 a12 s a14) (fun i s => ∃ G', rn_gm G' s ∧ rn_good n G' ∧ ∀ f, rn_resp G' f ↔ (∀ v, v < n → (D v).testBit (f v).toNat = true) ∧ ∀ c, c < i → (C c).testBit (rn_ix (f (X c)) (f (Y c)) (f (Z c))) = true) m 0 a13 (by omega) ⟨G, hG, hg, fun f => ⟨fun g => ⟨(hS f).mp g, fun c hc => absurd hc (by omega)⟩, fun g => (hS f).mpr g.1⟩⟩ ?_ ?_
  · intro f s h
    obtain ⟨G', h1, h2, h3⟩ := h
    exact pk_le m m (fun _ => rn_c139 n8 h1 h2 (fun ⟨f, hf⟩ => H1 ⟨f, (h3 f).mp hf⟩) (fun g => H0 (fun ⟨f, hf⟩ => g ⟨f, (h3 f).mpr hf⟩))) (fun z => absurd z (by omega))
  · intro fu i s hi h hw
    obtain ⟨G', h1, h2, h3⟩ := h
    obtain ⟨vx, vy, vz⟩ := hv i hi
    obtain ⟨r6, c256, e4, e1, e5, e6, e7, _, _⟩ := hcs i hi
    have cc : (nI i).toNatClampNeg = i := nI_clamp (by omega)
    have c20 : vp_in (nI i) 20 := pk_in i 20 (by omega)
    refine pk_le m i (fun z => absurd z (by omega)) (fun _ => br_f (rn_ne1 (by omega)) ?_)
    rw [cc, e4, e5, e6, nI_clamp (show R i < 2 ^ 31 by omega), e1]
    refine ⟨c20, vp_in_nI r6 (by omega), nm_e ⟨c20, c20, rn_forbidPairs (wA := 4) (wB := 2) c256 (by omega) (by omega) n8 vx vy h1 h2 (fun G1 s1 k1 k2 k3 => ⟨c20, c20, ?_⟩)⟩⟩
    rw [e5, e7]
    refine rn_forbidPairs (wA := 4) (wB := 1) c256 (by omega) (by omega) n8 vx vz k1 k2 (fun G2 s2 l1 l2 l3 => ⟨c20, c20, ?_⟩)
    rw [e6, e7]
    refine rn_forbidPairs (wA := 2) (wB := 1) c256 (by omega) (by omega) n8 vy vz l1 l2 (fun G3 s3 o1 o2 o3 => nm_r (nI_1 i) (hw s3 ⟨G3, o1, o2, fun f => ?_⟩))
    rw [o3 f, l3 f, k3 f, h3 f, rn_seen42, rn_seen41, rn_seen21]
    constructor
    · rintro ⟨⟨⟨⟨q1, q2⟩, q3⟩, q4⟩, q5⟩
      refine ⟨q1, fun c hc => ?_⟩
      by_cases e : c = i
      · rw [e]; exact rn_maj (hx i hi) q3 q4 q5
      · exact q2 c (by omega)
    · rintro ⟨q1, q2⟩
      have q := q2 i (by omega)
      exact ⟨⟨⟨⟨q1, fun c hc => q2 c (by omega)⟩, ⟨_, q⟩⟩, ⟨_, q⟩⟩, ⟨_, q⟩⟩
theorem rn_s16 : ∀ p, p < 16 → (2 ^ p) < 65536 := by decide
theorem rn_g0 (n : Nat) : rn_good n (fun k => 2 ^ k) := by
  have e : ∀ a b, rn_E (fun k => 2 ^ k) a b ↔ a = b := by
    intro a b
    show (2 ^ a).testBit b = true ↔ _
    rw [Nat.testBit_two_pow, decide_eq_true_iff]
  refine ⟨rn_s16, fun p _ => (e p p).mpr rfl, fun p hp q hq g => ?_, fun p hp q hq g => Or.inl ((e p q).mp g)⟩
  rw [(e p q).mp g]
  exact (e _ _).mpr rfl
theorem rn_closeLiterals (hC : rn_core n m K R C X Y Z a1 a2 a3 a4 a5 a6 a7) (hD : rn_dm n D a9) (hx : ∀ c, c < m → rn_ma (C c))
    (H1 : (∃ f, rn_sat n m C X Y Z D f) → ∀ b13, post 1 (nI n, nI m, -1, 0, fo, a1, a2, a3, a4, a5, a6, a7, a8, a9, a10, a11, a12, b13, a14))
    (H0 : (¬ ∃ f, rn_sat n m C X Y Z D f) → ∀ b13, post 0 (nI n, nI m, -1, 0, fo, a1, a2, a3, a4, a5, a6, a7, a8, a9, a10, a11, a12, b13, a14)) : wpX_closeLiterals post (nI n, nI m, -1, 0, fo, a1, a2, a3, a4, a5, a6, a7, a8, a9, a10, a11, a12, a13, a14) := by
  have n8 := hC.1.2.1
  refine pk_loop (fun f i (s : Nat → Int32) => wX_closeLiterals_2 post (nI n) (nI m) (-1) 0 fo f (nI i) a1 a2 a3 a4 a5 a6 a7 a8 a9 a10 a11 a12 s a14) (fun i s => ∀ k, k < i → s k = nI (2 ^ k)) 16 0 a13 (by omega) (fun k hk => absurd hk (by omega)) ?_ ?_
  · intro f s h
    refine pk_le 16 16 (fun _ => ?_) (fun z => absurd z (by omega))
    refine pk_loop (fun f i (s : Nat → Int32) => wX_closeLiterals_25 post f (nI i) (nI n) (nI m) (-1) 0 fo a1 a2 a3 a4 a5 a6 a7 a8 a9 a10 a11 a12 s a14) (fun i s => ∃ G', rn_gm G' s ∧ rn_good n G' ∧ ∀ f, rn_resp G' f ↔ ∀ v, v < i → (D v).testBit (f v).toNat = true) n 0 s (by omega) ⟨fun k => 2 ^ k, h, rn_g0 n, fun f => ⟨fun _ v hv => absurd hv (by omega), fun _ p hp q hq g l => ?_⟩⟩ ?_ ?_
    · have e : p = q := by
        have g' : (2 ^ p).testBit q = true := g
        rw [Nat.testBit_two_pow, decide_eq_true_iff] at g'
        exact g'
      rw [← e]; exact l
    · intro f s h
      obtain ⟨G', h1, h2, h3⟩ := h
      exact pk_le n n (fun _ => rn_c46 hC hx h1 h2 h3 H1 H0) (fun z => absurd z (by omega))
    · intro f i s hi h hw
      obtain ⟨G', h1, h2, h3⟩ := h
      refine pk_le n i (fun z => absurd z (by omega)) (fun _ => rn_forbidOutside n8 hi hD h1 h2 (fun G2 b13 k1 k2 k3 => nm_r (nI_1 i) (hw b13 ⟨G2, k1, k2, fun f => ?_⟩)))
      rw [k3 f, h3 f]
      refine ⟨fun g v hv => ?_, fun g => ⟨fun v hv => g v (by omega), g i (by omega)⟩⟩
      by_cases e : v = i
      · rw [e]; exact g.2
      · exact g.1 v (by omega)
  · intro f i s hi h hw
    refine pk_le 16 i (fun z => absurd z (by omega)) (fun _ => ⟨pk_in i 16 hi, ?_⟩)
    rw [nI_clamp (show i < 2 ^ 31 by omega), rn_shl1 (by omega)]
    exact nm_e (nm_r (nI_1 i) (hw _ (rn_fill (f := fun k => nI (2 ^ k)) h rfl)))
end
end
section
/-! part 14: decide, satisfiable, solutions, can, possible -/
theorem rn_w128 : ∀ W, W < 128 → ((nI W &&& 12 = 0 ↔ W.testBit 2 = false ∧ W.testBit 3 = false) ∧ (nI W &&& 16 = 0 ↔ W.testBit 4 = false) ∧ (nI W &&& 32 = 0 ↔ W.testBit 5 = false)) := by decide +kernel
theorem rn_bt {b : Bool} (h : ¬ b = false) : b = true := by cases b <;> simp_all
section
variable {n m : Nat} {fo : Int32} {a1 a2 a3 a4 a5 a6 a7 a8 a9 a10 a11 a12 a13 a14 : Nat → Int32} {K R C X Y Z D : Nat → Nat} {post : Int32 → St2 → Prop}
theorem rn_decide (hC : rn_core n m K R C X Y Z a1 a2 a3 a4 a5 a6 a7) (hD : rn_dm n D a9)
    (H1 : (∃ f, rn_sat n m C X Y Z D f) → ∀ (bo : Int32) (b9 b10 b11 b12 b13 b14 : Nat → Int32), (∀ j, j < 8 → b10 j = a10 j) → post 1 (nI n, nI m, -1, 0, bo, a1, a2, a3, a4, a5, a6, a7, a8, b9, b10, b11, b12, b13, b14))
    (H0 : (¬ ∃ f, rn_sat n m C X Y Z D f) → ∀ (bo : Int32) (b9 b10 b11 b12 b13 b14 : Nat → Int32), (∀ j, j < 8 → b10 j = a10 j) → post 0 (nI n, nI m, -1, 0, bo, a1, a2, a3, a4, a5, a6, a7, a8, b9, b10, b11, b12, b13, b14)) : wpX_decide post (nI n, nI m, -1, 0, fo, a1, a2, a3, a4, a5, a6, a7, a8, a9, a10, a11, a12, a13, a14) := by
  have hv := hC.2.2.1
  unfold wpX_decide
  refine rn_netTraits hC.2.1 (fun W hW hWi => ?_)
  obtain ⟨w12, w16, w32⟩ := rn_w128 W hW
  have hK : ∀ i, W.testBit i = true → ∀ c, c < m → (K (R c)).testBit i = true := fun i hi c hc => hWi i hi (R c) (hC.2.2.2 c hc).1 (hC.2.2.2 c hc).2.2.2.2.2.2.2.1
  have hM : ∀ c, c < m → rn_mk (C c) (K (R c)) := fun c hc => (hC.2.2.2 c hc).2.2.2.2.2.2.2.2
  refine ek_if w12 (fun _ => ek_if w16 (fun _ => ek_if w32 (fun _ => ?_) (fun g5 => ?_)) (fun g4 => ?_)) (fun g => ?_)
  · refine rn_search hC hD (fun h0 b9 b10 b11 b12 hj => ?_) (fun _ hs q b9 b10 b11 b12 q0 q3 hj => ?_)
    · have e := h0 rfl
      refine br_t ?_ (H0 (fun hs => ?_) _ b9 b10 b11 b12 a13 a14 hj)
      · rw [e]; decide
      · have := (rn_ct_ex hv).mpr hs
        omega
    · exact br_f (nI_nle q0 (by omega)) (H1 hs _ b9 b10 b11 b12 a13 a14 hj)
  · refine rn_eliminate hC hD (fun c hc => (hM c hc).2.2.2 (hK 5 (rn_bt g5) c hc)) (fun B b14 h1 h2 h3 => ⟨rfl, H1 ?_ fo a9 a10 a11 a12 a13 b14 (fun _ _ => rfl)⟩) (fun hn b14 => ⟨rfl, H0 hn fo a9 a10 a11 a12 a13 b14 (fun _ _ => rfl)⟩)
    obtain ⟨f, hf⟩ := rn_rows_ex h2
    exact ⟨f, (h3 f).mp hf⟩
  · exact rn_closeLiterals hC hD (fun c hc => (hM c hc).2.2.1 (hK 4 (rn_bt g4) c hc)) (fun hs b13 => ⟨rfl, H1 hs fo a9 a10 a11 a12 b13 a14 (fun _ _ => rfl)⟩) (fun hn b13 => ⟨rfl, H0 hn fo a9 a10 a11 a12 b13 a14 (fun _ _ => rfl)⟩)
  · refine rn_filter hC hD (fun hn b9 => ⟨rfl, H0 hn fo b9 a10 a11 a12 a13 a14 (fun _ _ => rfl)⟩) (fun D' b9 h1 h2 h3 => ⟨rfl, H1 ?_ fo b9 a10 a11 a12 a13 a14 (fun _ _ => rfl)⟩)
    have ex : ∃ f, rn_sat n m C X Y Z D' f := by
      cases e2 : W.testBit 2
      · cases e3 : W.testBit 3
        · exact absurd ⟨e2, e3⟩ g
        · exact rn_join hv h2.2.2 h3 (fun c hc => (hM c hc).2.1 (hK 3 e3 c hc))
      · exact rn_meet hv h2.2.2 h3 (fun c hc => (hM c hc).1 (hK 2 e2 c hc))
    obtain ⟨f, hf⟩ := ex
    exact ⟨f, rn_sat_sub h2.1 hf⟩
theorem rn_satisfiable (hC : rn_core n m K R C X Y Z a1 a2 a3 a4 a5 a6 a7) (hA : rn_as n D a8)
    (H1 : (∃ f, rn_sat n m C X Y Z D f) → ∀ (bo : Int32) (b9 b10 b11 b12 b13 b14 : Nat → Int32), post 1 (nI n, nI m, -1, 0, bo, a1, a2, a3, a4, a5, a6, a7, a8, b9, b10, b11, b12, b13, b14))
    (H0 : (¬ ∃ f, rn_sat n m C X Y Z D f) → ∀ (bo : Int32) (b9 b10 b11 b12 b13 b14 : Nat → Int32), post 0 (nI n, nI m, -1, 0, bo, a1, a2, a3, a4, a5, a6, a7, a8, b9, b10, b11, b12, b13, b14)) : wpX_satisfiable post (nI n, nI m, -1, 0, fo, a1, a2, a3, a4, a5, a6, a7, a8, a9, a10, a11, a12, a13, a14) := by
  unfold wpX_satisfiable
  refine rn_setDomains hC.1.2.1 hA (fun b9 hD => rn_decide hC hD (fun hs co c9 c10 c11 c12 c13 c14 _ => br_f (by decide) (H1 hs co c9 c10 c11 c12 c13 c14)) (fun hs co c9 c10 c11 c12 c13 c14 _ => br_t rfl (H0 hs co c9 c10 c11 c12 c13 c14)))
theorem rn_solutions (hC : rn_core n m K R C X Y Z a1 a2 a3 a4 a5 a6 a7) (hA : rn_as n D a8)
    (H : ∀ (bo : Int32) (b9 b10 b11 b12 b13 b14 : Nat → Int32), post (nI (rn_ct n m C X Y Z D)) (nI n, nI m, -1, 0, bo, a1, a2, a3, a4, a5, a6, a7, a8, b9, b10, b11, b12, b13, b14)) : wpX_solutions post (nI n, nI m, -1, 0, fo, a1, a2, a3, a4, a5, a6, a7, a8, a9, a10, a11, a12, a13, a14) := by
  have n8 := hC.1.2.1
  unfold wpX_solutions
  refine rn_setDomains n8 hA (fun b9 hD => rn_netTraits hC.2.1 (fun W hW hWi => ?_))
  obtain ⟨w12, w16, w32⟩ := rn_w128 W hW
  have hK : ∀ i, W.testBit i = true → ∀ c, c < m → (K (R c)).testBit i = true := fun i hi c hc => hWi i hi (R c) (hC.2.2.2 c hc).1 (hC.2.2.2 c hc).2.2.2.2.2.2.2.1
  have hM : ∀ c, c < m → rn_mk (C c) (K (R c)) := fun c hc => (hC.2.2.2 c hc).2.2.2.2.2.2.2.2
  refine ek_if w32 (fun _ => ?_) (fun g5 => ?_)
  · exact rn_search hC hD (fun _ c9 c10 c11 c12 hj => H _ c9 c10 c11 c12 a13 a14) (fun h => absurd h (by decide))
  · refine rn_eliminate hC hD (fun c hc => (hM c hc).2.2.2 (hK 5 (rn_bt g5) c hc)) (fun B b14 h1 h2 h3 => br_f (by decide) (rn_rank n8 h1 h2 ?_)) (fun hn b14 => br_t rfl ?_)
    · have e : rn_ct n m C X Y Z D = 2 ^ (n - rn_rk B n) := by
        rw [← rn_rowcnt h2]
        exact rn_cnt_c (fun j _ => (h3 _).symm)
      have le := rn_rk_le B n
      have G := H fo b9 a10 a11 a12 a13 b14
      rw [e] at G
      show post ((1 : Int32) <<< ((nI n - nI (rn_rk B n)) &&& 31)) _
      rw [pk_sub le, rn_shl1 (by omega)]
      exact G
    · have G := H fo b9 a10 a11 a12 a13 b14
      rw [rn_ct_0 hn] at G
      exact G
theorem rn_isVar {post : Int32 → Prop} {v : Nat} (n8 : n ≤ 8) (hv : v < n) (H : post 1) : wpX_isVar post (nI n, nI m, -1, 0, fo, a1, a2, a3, a4, a5, a6, a7, a8, a9, a10, a11, a12, a13, a14) (nI v) :=
  br_f (nI_pos (by omega)) (pk_le n v (fun z => absurd z (by omega)) (fun _ => H))
theorem rn_sat_and {n m : Nat} {C X Y Z D D' : Nat → Nat} {f : Nat → Bool} {v : Nat} {b : Bool} (hv : v < n) (h : ∀ u, u < n → ∀ c : Bool, ((D' u).testBit c.toNat = true ↔ (D u).testBit c.toNat = true ∧ (u = v → c = b))) : rn_sat n m C X Y Z D' f ↔ rn_sat n m C X Y Z D f ∧ f v = b := by
  constructor
  · intro g
    exact ⟨⟨fun u hu => ((h u hu _).mp (g.1 u hu)).1, g.2⟩, ((h v hv _).mp (g.1 v hv)).2 rfl⟩
  · intro g
    exact ⟨fun u hu => (h u hu _).mpr ⟨g.1.1 u hu, fun e => by rw [e]; exact g.2⟩, g.1.2⟩
theorem rn_2b : ∀ b c : Bool, (2 ^ b.toNat).testBit c.toNat = true ↔ c = b := by decide
theorem rn_can {v : Nat} {b : Bool} (hC : rn_core n m K R C X Y Z a1 a2 a3 a4 a5 a6 a7) (hA : rn_as n D a8) (hv : v < n)
    (H1 : (∃ f, rn_sat n m C X Y Z D f ∧ f v = b) → ∀ (bo : Int32) (b9 b10 b11 b12 b13 b14 : Nat → Int32), post 1 (nI n, nI m, -1, 0, bo, a1, a2, a3, a4, a5, a6, a7, a8, b9, b10, b11, b12, b13, b14))
    (H0 : (¬ ∃ f, rn_sat n m C X Y Z D f ∧ f v = b) → ∀ (bo : Int32) (b9 b10 b11 b12 b13 b14 : Nat → Int32), post 0 (nI n, nI m, -1, 0, bo, a1, a2, a3, a4, a5, a6, a7, a8, b9, b10, b11, b12, b13, b14)) : wpX_can post (nI n, nI m, -1, 0, fo, a1, a2, a3, a4, a5, a6, a7, a8, a9, a10, a11, a12, a13, a14) (nI v) (nI b.toNat) (nI v) (nI b.toNat) := by
  have n8 := hC.1.2.1
  have b2 := rn_bool b
  unfold wpX_can
  refine rn_setDomains n8 hA (fun b9 hD => ?_)
  dsimp only
  rw [nI_clamp (show v < 2 ^ 31 by omega), rn_k12]
  have d1 : rn_dm n (rn_put D v (D v &&& 2 ^ b.toNat)) (upd b9 v (nI (D v &&& 2 ^ b.toNat))) := rn_dm_put hD (Nat.lt_of_le_of_lt Nat.and_le_left (hD v hv).2) rfl
  generalize e1 : rn_put D v (D v &&& 2 ^ b.toNat) = D1 at d1
  have d2 : rn_dm n (rn_put D1 v (D1 v &&& 2 ^ b.toNat)) (upd (upd b9 v (nI (D v &&& 2 ^ b.toNat))) v (nI (D1 v &&& 2 ^ b.toNat))) := rn_dm_put d1 (Nat.lt_of_le_of_lt Nat.and_le_left (d1 v hv).2) rfl
  generalize e2 : rn_put D1 v (D1 v &&& 2 ^ b.toNat) = D2 at d2
  have eq : ∀ f, rn_sat n m C X Y Z D2 f ↔ rn_sat n m C X Y Z D f ∧ f v = b := by
    intro f
    refine rn_sat_and hv (fun u hu c => ?_)
    rw [← e2, rn_and_put, ← e1, rn_and_put, rn_2b]
    exact ⟨fun h => h.1, fun h => ⟨h, h.2⟩⟩
  refine ⟨pk_in v 8 (by omega), pk_in v 8 (by omega), nm_r (e' := upd b9 v (nI (D v &&& 2 ^ b.toNat))) (by rw [(hD v hv).1, rn_and]) ⟨pk_in v 8 (by omega), pk_in v 8 (by omega), nm_r (e' := upd (upd b9 v (nI (D v &&& 2 ^ b.toNat))) v (nI (D1 v &&& 2 ^ b.toNat))) (by rw [(d1 v hv).1, rn_and]) ?_⟩⟩
  refine rn_decide hC d2 (fun ⟨f, hf⟩ co c9 c10 c11 c12 c13 c14 _ => ⟨rfl, H1 ⟨f, (eq f).mp hf⟩ co c9 c10 c11 c12 c13 c14⟩) (fun hs co c9 c10 c11 c12 c13 c14 _ => ⟨rfl, H0 (fun ⟨f, hf⟩ => hs ⟨f, (eq f).mpr hf⟩) co c9 c10 c11 c12 c13 c14⟩)
theorem rn_possible {v : Nat} {b : Bool} (hC : rn_core n m K R C X Y Z a1 a2 a3 a4 a5 a6 a7) (hA : rn_as n D a8) (hv : v < n)
    (H1 : (∃ f, rn_sat n m C X Y Z D f ∧ f v = b) → ∀ (bo : Int32) (b9 b10 b11 b12 b13 b14 : Nat → Int32), post 1 (nI n, nI m, -1, 0, bo, a1, a2, a3, a4, a5, a6, a7, a8, b9, b10, b11, b12, b13, b14))
    (H0 : (¬ ∃ f, rn_sat n m C X Y Z D f ∧ f v = b) → ∀ (bo : Int32) (b9 b10 b11 b12 b13 b14 : Nat → Int32), post 0 (nI n, nI m, -1, 0, bo, a1, a2, a3, a4, a5, a6, a7, a8, b9, b10, b11, b12, b13, b14)) : wpX_possible post (nI n, nI m, -1, 0, fo, a1, a2, a3, a4, a5, a6, a7, a8, a9, a10, a11, a12, a13, a14) (nI v) (nI b.toNat) := by
  have n8 := hC.1.2.1
  have G : wX_possible_22 post (nI v) (nI b.toNat) (nI n) (nI m) (-1) 0 fo a1 a2 a3 a4 a5 a6 a7 a8 a9 a10 a11 a12 a13 a14 := by
    unfold wX_possible_22
    exact rn_can hC hA hv (fun hs co c9 c10 c11 c12 c13 c14 => br_f (by decide) (H1 hs co c9 c10 c11 c12 c13 c14)) (fun hs co c9 c10 c11 c12 c13 c14 => br_t rfl (H0 hs co c9 c10 c11 c12 c13 c14))
  unfold wpX_possible
  refine rn_isVar n8 hv (br_f (by decide) ?_)
  clear H1 H0
  cases b
  · exact br_t rfl G
  · exact br_f (by decide) (br_t rfl G)
end
end
section
/-! part 15: extreme, least, greatest, shareAbove, next -/
theorem rn_d2w : ∀ d, d < 4 → ∀ w : Bool, (d.testBit w.toNat = true → d &&& 2 ^ w.toNat = 2 ^ w.toNat) ∧ (d.testBit w.toNat = false → d &&& 2 ^ w.toNat = 0) := by decide
theorem rn_1m : ∀ w : Bool, (1 : Int32) - nI w.toNat = nI (!w).toNat := by decide
theorem rn_m1s (i : Nat) : nI i + (-1) = nI i - 1 := by
  rw [Int32.sub_eq_add_neg]
section
variable {n m : Nat} {fo : Int32} {a1 a2 a3 a4 a5 a6 a7 a8 a9 a10 a11 a12 a13 a14 : Nat → Int32} {K R C X Y Z D : Nat → Nat} {post : Int32 → St2 → Prop}
theorem rn_x77 {J : Int32 → Int32 → Int32 → Int32 → Int32 → Int32 → Int32 → (Nat → Int32) → (Nat → Int32) → (Nat → Int32) → (Nat → Int32) → (Nat → Int32) → (Nat → Int32) → (Nat → Int32) → (Nat → Int32) → (Nat → Int32) → (Nat → Int32) → (Nat → Int32) → (Nat → Int32) → (Nat → Int32) → (Nat → Int32) → Prop} {x1 : Int32} {num i : Nat} {b : Bool} (n8 : n ≤ 8) (hi : i < n) (hD : rn_dm n D a9)
    (H : ∀ b10, rn_dm n (rn_put D i (2 ^ b.toNat)) b10 → J (nI (num + b.toNat * 2 ^ i)) (nI i - 1) (nI n) (nI m) (-1) 0 fo a1 a2 a3 a4 a5 a6 a7 a8 (upd a9 i (nI (2 ^ b.toNat))) b10 a11 a12 a13 a14) : wX_extreme_77 post J x1 (nI num) (nI i) (nI b.toNat) (nI n) (nI m) (-1) 0 fo a1 a2 a3 a4 a5 a6 a7 a8 a9 a10 a11 a12 a13 a14 := by
  have b2 : 2 ^ b.toNat < 4 := by cases b <;> decide
  unfold wX_extreme_77
  rw [nI_clamp (show i < 2 ^ 31 by omega), rn_k12]
  refine ⟨pk_in i 8 (by omega), nm_e (rn_keep (p := 0) (by omega) (fun b10 k1 k2 => nm_r (e' := nI (num + b.toNat * 2 ^ i)) ?_ (nm_r (rn_m1s i) (H b10 (fun v hv => ?_)))))⟩
  · have := rn_bool b
    have p8 : 2 ^ i ≤ 2 ^ 8 := Nat.pow_le_pow_right (by omega) (by omega)
    rw [rn_shl (by omega) ?_, nI_add]
    have : b.toNat * 2 ^ i ≤ 1 * 2 ^ 8 := Nat.mul_le_mul (by omega) p8
    omega
  · have := k1 v (by omega)
    rw [Nat.zero_add] at this
    rw [this]
    exact rn_dm_put hD b2 rfl v hv
theorem rn_extreme {w : Bool} (hC : rn_core n m K R C X Y Z a1 a2 a3 a4 a5 a6 a7) (hD : rn_dm n D a9)
    (H0 : (¬ ∃ f, rn_sat n m C X Y Z D f) → ∀ (bo : Int32) (b9 b10 b11 b12 b13 b14 : Nat → Int32), post (-1) (nI n, nI m, -1, 0, bo, a1, a2, a3, a4, a5, a6, a7, a8, b9, b10, b11, b12, b13, b14))
    (H1 : ∀ k, k < 2 ^ n → rn_sat n m C X Y Z D (fun v => k.testBit v) → (∀ j, j < 2 ^ n → rn_sat n m C X Y Z D (fun v => j.testBit v) → (w = true → j ≤ k) ∧ (w = false → k ≤ j)) → ∀ (bo : Int32) (b9 b10 b11 b12 b13 b14 : Nat → Int32), post (nI k) (nI n, nI m, -1, 0, bo, a1, a2, a3, a4, a5, a6, a7, a8, b9, b10, b11, b12, b13, b14)) : wpX_extreme post (nI n, nI m, -1, 0, fo, a1, a2, a3, a4, a5, a6, a7, a8, a9, a10, a11, a12, a13, a14) (nI w.toNat) := by
  have n8 := hC.1.2.1
  have hv := hC.2.2.1
  have w2 := rn_bool w
  unfold wpX_extreme
  refine rn_keep (p := 0) (by omega) (fun s10 k1 k2 => rn_decide hC hD (fun hs bo b9 b10 b11 b12 b13 b14 hj => br_f (by decide) (nm_e ?_)) (fun hs bo b9 b10 b11 b12 b13 b14 hj => br_t rfl (H0 hs bo b9 b10 b11 b12 b13 b14)))
  refine ⟨n + 1, pk_loopD (fun f i (s : Nat × Int32 × (Nat → Int32) × (Nat → Int32) × (Nat → Int32) × (Nat → Int32) × (Nat → Int32) × (Nat → Int32)) => wX_extreme_23 post (nI w.toNat) f (nI s.1) (nI i - 1) (nI n) (nI m) (-1) 0 (s.2.1) a1 a2 a3 a4 a5 a6 a7 a8 (s.2.2.1) (s.2.2.2.1) (s.2.2.2.2.1) (s.2.2.2.2.2.1) (s.2.2.2.2.2.2.1) (s.2.2.2.2.2.2.2)) (fun i s => i ≤ n ∧ ∃ D', rn_dm n D' s.2.2.2.1 ∧ rn_exi w n i s.1 (rn_sat n m C X Y Z D) (rn_sat n m C X Y Z D')) ?_ ?_ n (0, (bo, b9, b10, b11, b12, b13, b14)) ⟨Nat.le_refl n, D, fun v hv' => ?_, rn_exi_0 hs⟩⟩
  · intro f s h
    obtain ⟨_, D', _, h2⟩ := h
    obtain ⟨g1, g2, g3⟩ := rn_exi_n (fun f g he hf => rn_sat_c hv he hf) h2
    exact br_t (by decide) (H1 s.1 g1 g2 g3 s.2.1 s.2.2.1 s.2.2.2.1 s.2.2.2.2.1 s.2.2.2.2.2.1 s.2.2.2.2.2.2.1 s.2.2.2.2.2.2.2)
  · intro f i s h hw
    obtain ⟨num, co, c9, c10, c11, c12, c13, c14⟩ := s
    obtain ⟨hi, D', hD', hx⟩ := h
    replace hD' : rn_dm n D' c10 := hD'
    replace hx : rn_exi w n (i + 1) num (rn_sat n m C X Y Z D) (rn_sat n m C X Y Z D') := hx
    have i8 : i < 8 := by omega
    have di := (hD' i (by omega)).2
    have fin : ∀ (b : Bool) (eo : Int32) (e9 e10 e11 e12 e13 e14 : Nat → Int32), rn_dm n D' e9 → (∃ f, rn_sat n m C X Y Z D' f ∧ f i = b) → (b ≠ w → ∀ f, rn_sat n m C X Y Z D' f → f i = b) → wX_extreme_77 post (wX_extreme_23 post (nI w.toNat) f) (nI w.toNat) (nI num) (nI i) (nI b.toNat) (nI n) (nI m) (-1) 0 eo a1 a2 a3 a4 a5 a6 a7 a8 e9 e10 e11 e12 e13 e14 := by
      intro b eo e9 e10 e11 e12 e13 e14 he h1 h2
      refine rn_x77 n8 (by omega) he (fun d10 hd => hw (num + b.toNat * 2 ^ i, eo, _, d10, e11, e12, e13, e14) ⟨by omega, rn_put D' i (2 ^ b.toNat), hd, ?_⟩)
      have hb : (D' i).testBit b.toNat = true := by
        obtain ⟨f, hf, e⟩ := h1
        rw [← e]; exact hf.1 i (by omega)
      exact rn_exi_s (by omega) hx (fun f => rn_sat_put (by omega) hb) h1 h2
    show wX_extreme_23 post (nI w.toNat) (f + 1) (nI num) (nI (i + 1) - 1) (nI n) (nI m) (-1) 0 co a1 a2 a3 a4 a5 a6 a7 a8 c9 c10 c11 c12 c13 c14
    rw [nI_pred]
    refine br_f (nI_pos (by omega)) (rn_fetch (p := 0) (by omega) (fun d9 h9 => ?_))
    have dd : rn_dm n D' d9 := by
      intro v hv'
      rw [h9 v (by omega), Nat.zero_add]
      exact hD' v hv'
    have ei : d9 (nI i).toNatClampNeg &&& (1 : Int32) <<< (nI w.toNat &&& 31) = nI (D' i &&& 2 ^ w.toNat) := by
      rw [nI_clamp (by omega), rn_k12, (dd i (by omega)).1, rn_and]
    obtain ⟨q1, q0⟩ := rn_d2w (D' i) di w
    refine ⟨pk_in i 8 i8, nm_r ei (nm_r (rn_1m w) ?_)⟩
    obtain ⟨f0, hf0⟩ := hx.1
    cases hwi : (D' i).testBit w.toNat
    · rw [q0 hwi]
      have no : ∀ f, rn_sat n m C X Y Z D' f → f i = !w := by
        intro f hf
        have := hf.1 i (by omega)
        cases e : f i
        · cases w
          · rw [e] at this
            exact absurd (this.symm.trans hwi) (by decide)
          · rfl
        · cases w
          · rfl
          · rw [e] at this
            exact absurd (this.symm.trans hwi) (by decide)
      exact br_t rfl (fin (!w) co d9 c10 c11 c12 c13 c14 dd ⟨f0, hf0, no f0 hf0⟩ (fun _ => no))
    · rw [q1 hwi]
      have b2 : 2 ^ w.toNat < 4 := by cases w <;> decide
      refine br_f (by cases w <;> decide) ⟨pk_in i 8 i8, ?_⟩
      rw [nI_clamp (show i < 2 ^ 31 by omega)]
      have d2 : rn_dm n (rn_put D' i (2 ^ w.toNat)) (upd d9 i (nI (2 ^ w.toNat))) := rn_dm_put dd b2 rfl
      have sp : ∀ f, rn_sat n m C X Y Z (rn_put D' i (2 ^ w.toNat)) f ↔ rn_sat n m C X Y Z D' f ∧ f i = w := fun f => rn_sat_put (by omega) hwi
      have dk : ∀ (eo : Int32) (e9 e10 e11 e12 e13 e14 : Nat → Int32), (∀ j, j < 8 → e10 j = c10 j) → ∀ b : Bool, (∃ f, rn_sat n m C X Y Z D' f ∧ f i = b) → (b ≠ w → ∀ f, rn_sat n m C X Y Z D' f → f i = b) → wX_extreme_72 post (wX_extreme_23 post (nI w.toNat) f) (nI w.toNat) (nI num) (nI i) (nI b.toNat) (nI n) (nI m) (-1) 0 eo a1 a2 a3 a4 a5 a6 a7 a8 e9 e10 e11 e12 e13 e14 := by
        intro eo e9 e10 e11 e12 e13 e14 h10 b h1 h2
        unfold wX_extreme_72
        refine rn_fetch (p := 0) (by omega) (fun g9 hg => fin b eo g9 e10 e11 e12 e13 e14 (fun v hv' => ?_) h1 h2)
        rw [hg v (by omega), Nat.zero_add, h10 v (by omega)]
        exact hD' v hv'
      refine nm_e (rn_decide hC d2 (fun ⟨f, hf⟩ eo e9 e10 e11 e12 e13 e14 h10 => br_f (by decide) (dk eo e9 e10 e11 e12 e13 e14 h10 w ⟨f, (sp f).mp hf⟩ (fun z => absurd rfl z))) (fun hn eo e9 e10 e11 e12 e13 e14 h10 => br_t rfl ?_))
      have no : ∀ f, rn_sat n m C X Y Z D' f → f i = !w := by
        intro f hf
        have ne : f i ≠ w := fun e => hn ⟨f, (sp f).mpr ⟨hf, e⟩⟩
        revert ne
        cases f i <;> cases w <;> decide
      exact dk eo e9 e10 e11 e12 e13 e14 h10 (!w) ⟨f0, hf0, no f0 hf0⟩ (fun _ => no)
  · have e1 := k1 v (by omega)
    rw [Nat.zero_add] at e1
    have e2 := hj v (by omega)
    show b10 v = nI (D v) ∧ D v < 4
    rw [e2, e1]
    exact hD v hv'
theorem rn_least (hC : rn_core n m K R C X Y Z a1 a2 a3 a4 a5 a6 a7) (hA : rn_as n D a8)
    (H0 : (¬ ∃ f, rn_sat n m C X Y Z D f) → ∀ (bo : Int32) (b9 b10 b11 b12 b13 b14 : Nat → Int32), post (-1) (nI n, nI m, -1, 0, bo, a1, a2, a3, a4, a5, a6, a7, a8, b9, b10, b11, b12, b13, b14))
    (H1 : ∀ k, k < 2 ^ n → rn_sat n m C X Y Z D (fun v => k.testBit v) → (∀ j, j < 2 ^ n → rn_sat n m C X Y Z D (fun v => j.testBit v) → k ≤ j) → ∀ (bo : Int32) (b9 b10 b11 b12 b13 b14 : Nat → Int32), post (nI k) (nI n, nI m, -1, 0, bo, a1, a2, a3, a4, a5, a6, a7, a8, b9, b10, b11, b12, b13, b14)) : wpX_least post (nI n, nI m, -1, 0, fo, a1, a2, a3, a4, a5, a6, a7, a8, a9, a10, a11, a12, a13, a14) := by
  unfold wpX_least
  exact rn_setDomains hC.1.2.1 hA (fun b9 hD => rn_extreme (w := false) hC hD (fun h co c9 c10 c11 c12 c13 c14 => H0 h co c9 c10 c11 c12 c13 c14) (fun k h1 h2 h3 co c9 c10 c11 c12 c13 c14 => H1 k h1 h2 (fun j g1 g2 => (h3 j g1 g2).2 rfl) co c9 c10 c11 c12 c13 c14))
theorem rn_greatest (hC : rn_core n m K R C X Y Z a1 a2 a3 a4 a5 a6 a7) (hA : rn_as n D a8)
    (H0 : (¬ ∃ f, rn_sat n m C X Y Z D f) → ∀ (bo : Int32) (b9 b10 b11 b12 b13 b14 : Nat → Int32), post (-1) (nI n, nI m, -1, 0, bo, a1, a2, a3, a4, a5, a6, a7, a8, b9, b10, b11, b12, b13, b14))
    (H1 : ∀ k, k < 2 ^ n → rn_sat n m C X Y Z D (fun v => k.testBit v) → (∀ j, j < 2 ^ n → rn_sat n m C X Y Z D (fun v => j.testBit v) → j ≤ k) → ∀ (bo : Int32) (b9 b10 b11 b12 b13 b14 : Nat → Int32), post (nI k) (nI n, nI m, -1, 0, bo, a1, a2, a3, a4, a5, a6, a7, a8, b9, b10, b11, b12, b13, b14)) : wpX_greatest post (nI n, nI m, -1, 0, fo, a1, a2, a3, a4, a5, a6, a7, a8, a9, a10, a11, a12, a13, a14) := by
  unfold wpX_greatest
  exact rn_setDomains hC.1.2.1 hA (fun b9 hD => rn_extreme (w := true) hC hD (fun h co c9 c10 c11 c12 c13 c14 => H0 h co c9 c10 c11 c12 c13 c14) (fun k h1 h2 h3 co c9 c10 c11 c12 c13 c14 => H1 k h1 h2 (fun j g1 g2 => (h3 j g1 g2).1 rfl) co c9 c10 c11 c12 c13 c14))
theorem rn_shareAbove {post : St2 → Prop} {a v : Nat} (n8 : n ≤ 8) (hv : v < n) (ha : a < 256) (hD : rn_dm n D a9)
    (H : ∀ D' b9, rn_dm n D' b9 → (∀ f, rn_sat n m C X Y Z D' f ↔ rn_sat n m C X Y Z D f ∧ rn_up n a v f) → post (nI n, nI m, -1, 0, fo, a1, a2, a3, a4, a5, a6, a7, a8, b9, a10, a11, a12, a13, a14)) : wpX_shareAbove post (nI n, nI m, -1, 0, fo, a1, a2, a3, a4, a5, a6, a7, a8, a9, a10, a11, a12, a13, a14) (nI a) (nI v) := by
  unfold wpX_shareAbove
  refine nm_r (nI_1 v) (pk_loop (fun f i (s : Nat → Int32) => wX_shareAbove_4 post (nI a) (nI v) (nI n) (nI m) (-1) 0 fo f (nI i) a1 a2 a3 a4 a5 a6 a7 a8 s a10 a11 a12 a13 a14) (fun i s => v < i ∧ ∃ D', rn_dm n D' s ∧ ∀ u, u < n → ∀ b : Bool, ((D' u).testBit b.toNat = true ↔ (D u).testBit b.toNat = true ∧ (v < u → u < i → b = a.testBit u))) n (v + 1) a9 (by omega) ⟨by omega, D, hD, fun u _ b => ⟨fun g => ⟨g, fun z1 z2 => absurd z1 (by omega)⟩, fun g => g.1⟩⟩ ?_ ?_)
  · intro f s h
    obtain ⟨_, D', h1, h2⟩ := h
    refine pk_le n n (fun _ => ⟨pk_in v 8 (by omega), pk_in v 8 (by omega), ?_⟩) (fun z => absurd z (by omega))
    rw [nI_clamp (show v < 2 ^ 31 by omega), (h1 v hv).1]
    refine nm_r (e' := upd s v (nI (D' v &&& 2))) (by rw [show nI (D' v) &&& 2 = nI (D' v &&& 2) from rn_and _ 2]) (H (rn_put D' v (D' v &&& 2)) _ (rn_dm_put h1 (Nat.lt_of_le_of_lt Nat.and_le_left (h1 v hv).2) rfl) (fun f => ?_))
    have t2 : ∀ b : Bool, Nat.testBit 2 b.toNat = true ↔ b = true := by decide
    have key : ∀ u, u < n → ∀ b : Bool, ((rn_put D' v (D' v &&& 2) u).testBit b.toNat = true ↔ (D u).testBit b.toNat = true ∧ (v < u → b = a.testBit u) ∧ (u = v → b = true)) := by
      intro u hu b
      rw [rn_and_put, h2 u hu b, t2]
      exact ⟨fun g => ⟨g.1.1, fun z => g.1.2 z hu, g.2⟩, fun g => ⟨⟨g.1, fun z _ => g.2.1 z⟩, g.2.2⟩⟩
    constructor
    · intro g
      exact ⟨⟨fun u hu => ((key u hu _).mp (g.1 u hu)).1, g.2⟩, ((key v hv _).mp (g.1 v hv)).2.2 rfl, fun u z hu => ((key u hu _).mp (g.1 u hu)).2.1 z⟩
    · intro g
      refine ⟨fun u hu => (key u hu _).mpr ⟨g.1.1 u hu, fun z => g.2.2 u z hu, fun e => ?_⟩, g.1.2⟩
      rw [e]; exact g.2.1
  · intro f i s hi h hw
    obtain ⟨hvi, D', h1, h2⟩ := h
    refine pk_le n i (fun z => absurd z (by omega)) (fun _ => ⟨pk_in i 8 (by omega), pk_in i 8 (by omega), ?_⟩)
    rw [nI_clamp (show i < 2 ^ 31 by omega), (h1 i hi).1, rn_bit (by omega) (by omega), rn_k12, rn_and]
    refine nm_e (nm_r (nI_1 i) (hw _ ⟨by omega, rn_put D' i (D' i &&& 2 ^ (a.testBit i).toNat), rn_dm_put h1 (Nat.lt_of_le_of_lt Nat.and_le_left (h1 i hi).2) rfl, fun u hu b => ?_⟩))
    rw [rn_and_put, h2 u hu b, rn_2b]
    constructor
    · intro g
      refine ⟨g.1.1, fun z1 z2 => ?_⟩
      by_cases e : u = i
      · rw [e]; exact g.2 e
      · exact g.1.2 z1 (by omega)
    · intro g
      refine ⟨⟨g.1, fun z1 z2 => g.2 z1 (by omega)⟩, fun e => ?_⟩
      have := g.2 (by omega) (by omega)
      rw [e] at this
      exact this
theorem rn_next0 (hC : rn_core n m K R C X Y Z a1 a2 a3 a4 a5 a6 a7) (hA : rn_as n D a8)
    (H0 : (¬ ∃ f, rn_sat n m C X Y Z D f) → ∀ (bo : Int32) (b9 b10 b11 b12 b13 b14 : Nat → Int32), post (-1) (nI n, nI m, -1, 0, bo, a1, a2, a3, a4, a5, a6, a7, a8, b9, b10, b11, b12, b13, b14))
    (H1 : ∀ k, k < 2 ^ n → rn_sat n m C X Y Z D (fun v => k.testBit v) → (∀ j, j < 2 ^ n → rn_sat n m C X Y Z D (fun v => j.testBit v) → k ≤ j) → ∀ (bo : Int32) (b9 b10 b11 b12 b13 b14 : Nat → Int32), post (nI k) (nI n, nI m, -1, 0, bo, a1, a2, a3, a4, a5, a6, a7, a8, b9, b10, b11, b12, b13, b14)) : wpX_next post (nI n, nI m, -1, 0, fo, a1, a2, a3, a4, a5, a6, a7, a8, a9, a10, a11, a12, a13, a14) (-1) := by
  unfold wpX_next
  exact br_f (by decide) (rn_setDomains hC.1.2.1 hA (fun b9 hD => rn_extreme (w := false) hC hD (fun h co c9 c10 c11 c12 c13 c14 => H0 h co c9 c10 c11 c12 c13 c14) (fun k h1 h2 h3 co c9 c10 c11 c12 c13 c14 => H1 k h1 h2 (fun j g1 g2 => (h3 j g1 g2).2 rfl) co c9 c10 c11 c12 c13 c14)))
theorem rn_next {a : Nat} (hC : rn_core n m K R C X Y Z a1 a2 a3 a4 a5 a6 a7) (hA : rn_as n D a8) (ha : a < 2 ^ n)
    (H0 : (∀ k, k < 2 ^ n → a < k → ¬ rn_sat n m C X Y Z D (fun v => k.testBit v)) → ∀ (bo : Int32) (b9 b10 b11 b12 b13 b14 : Nat → Int32), post (-1) (nI n, nI m, -1, 0, bo, a1, a2, a3, a4, a5, a6, a7, a8, b9, b10, b11, b12, b13, b14))
    (H1 : ∀ k, k < 2 ^ n → a < k → rn_sat n m C X Y Z D (fun v => k.testBit v) → (∀ j, j < 2 ^ n → a < j → rn_sat n m C X Y Z D (fun v => j.testBit v) → k ≤ j) → ∀ (bo : Int32) (b9 b10 b11 b12 b13 b14 : Nat → Int32), post (nI k) (nI n, nI m, -1, 0, bo, a1, a2, a3, a4, a5, a6, a7, a8, b9, b10, b11, b12, b13, b14)) : wpX_next post (nI n, nI m, -1, 0, fo, a1, a2, a3, a4, a5, a6, a7, a8, a9, a10, a11, a12, a13, a14) (nI a) := by
  have n8 := hC.1.2.1
  have p8 : 2 ^ n ≤ 2 ^ 8 := Nat.pow_le_pow_right (by omega) n8
  have p0 := Nat.two_pow_pos n
  unfold wpX_next
  dsimp only
  rw [rn_shl1 (show n < 32 by omega), show nI (2 ^ n) - 1 = nI (2 ^ n - 1) from pk_sub (b := 1) p0]
  refine br_t (nI_pos' (by omega)) (nm_e (pk_lt a (2 ^ n - 1) (fun hlt => ?_) (fun hge => H0 (fun k k1 k2 => absurd k1 (by omega)) fo a9 a10 a11 a12 a13 a14)))
  refine pk_loop (fun f i (s : Int32 × (Nat → Int32) × (Nat → Int32) × (Nat → Int32) × (Nat → Int32) × (Nat → Int32) × (Nat → Int32)) => wX_next_32 post (nI a) f (nI i) (nI n) (nI m) (-1) 0 (s.1) a1 a2 a3 a4 a5 a6 a7 a8 (s.2.1) (s.2.2.1) (s.2.2.2.1) (s.2.2.2.2.1) (s.2.2.2.2.2.1) (s.2.2.2.2.2.2)) (fun i _ => ∀ v, v < i → a.testBit v = false → ¬ ∃ f, rn_sat n m C X Y Z D f ∧ rn_up n a v f) n 0 (fo, a9, a10, a11, a12, a13, a14) (by omega) (fun v hv => absurd hv (by omega)) ?_ ?_
  · intro f s h
    refine pk_le n n (fun _ => H0 (fun k k1 k2 k3 => ?_) s.1 s.2.1 s.2.2.1 s.2.2.2.1 s.2.2.2.2.1 s.2.2.2.2.2.1 s.2.2.2.2.2.2) (fun z => absurd z (by omega))
    obtain ⟨v, v1, v2, v3⟩ := rn_up_ex k1 k2
    exact h v v1 v2 ⟨_, k3, v3⟩
  · intro f i s hi h hw
    refine pk_le n i (fun z => absurd z (by omega)) (fun _ => ?_)
    rw [rn_bit (by omega) (by omega)]
    cases e : a.testBit i
    · refine br_t rfl (rn_setDomains n8 hA (fun b9 hD => rn_shareAbove (C := C) (X := X) (Y := Y) (Z := Z) n8 hi (by omega) hD (fun D' c9 hD' hS => rn_extreme (w := false) hC hD' (fun hn eo e9 e10 e11 e12 e13 e14 => br_t (by decide) (nm_r (nI_1 i) (hw (eo, e9, e10, e11, e12, e13, e14) (fun v hv e' => ?_)))) (fun k k1 k2 k3 eo e9 e10 e11 e12 e13 e14 => br_f (nI_pos (by omega)) (H1 k k1 ?_ ?_ ?_ eo e9 e10 e11 e12 e13 e14)))))
      · by_cases ev : v = i
        · subst ev
          intro ⟨f, hf⟩
          exact hn ⟨f, (hS f).mpr hf⟩
        · exact h v (by omega) e'
      · exact rn_up_lt k1 ha e ((hS _).mp k2).2
      · exact ((hS _).mp k2).1
      · intro j j1 j2 j3
        obtain ⟨v, v1, v2, v3⟩ := rn_up_ex j1 j2
        rcases Nat.lt_trichotomy v i with z | z | z
        · exact absurd ⟨_, j3, v3⟩ (h v z v2)
        · subst z
          exact (k3 j j1 ((hS _).mpr ⟨j3, v3⟩)).2 rfl
        · exact Nat.le_of_lt (rn_up_ord k1 j1 z v1 v2 ((hS _).mp k2).2 v3)
    · refine br_f (by decide) (nm_r (nI_1 i) (hw s (fun v hv e' => ?_)))
      by_cases ev : v = i
      · subst ev
        exact absurd (e.symm.trans e') (by decide)
      · exact h v (by omega) e'
end
end
section
/-! part 16: shown, holds -/
def rn_shb (n k j : Nat) : Prop := j / 2 < n ∧ k.testBit (j / 2) = decide (j % 2 = 1)
theorem rn_shown {post : Int32 → Prop} {n k : Nat} (n8 : n ≤ 8) (hk : k < 256) (H : ∀ S, S < 65536 → (∀ j, S.testBit j = true ↔ rn_shb n k j) → post (nI S)) : wpL_shown post () (nI k) (nI n) := by
  refine pk_loop (fun f i (s : Nat) => wL_shown_4 post (nI k) (nI n) f (nI s) (nI i)) (fun i s => s < 65536 ∧ ∀ j, (s.testBit j = true ↔ j / 2 < i ∧ rn_shb n k j)) 8 0 0 (by omega) ⟨by omega, fun j => ⟨fun g => absurd g (by rw [Nat.zero_testBit]; decide), fun g => absurd g.1 (by omega)⟩⟩ ?_ ?_
  · intro f s h
    exact pk_le 8 8 (fun _ => H s h.1 (fun j => ⟨fun g => ((h.2 j).mp g).2, fun g => (h.2 j).mpr ⟨by have := g.1; omega, g⟩⟩)) (fun z => absurd z (by omega))
  · intro f i s hi h hw
    refine pk_le 8 i (fun z => absurd z (by omega)) (fun _ => pk_le n i (fun z => nm_r (nI_1 i) (hw s ⟨h.1, fun j => ?_⟩)) (fun z => ?_))
    · rw [h.2 j]
      exact ⟨fun g => ⟨by omega, g.2⟩, fun g => ⟨by have := g.2.1; omega, g.2⟩⟩
    · have bb := rn_bool (k.testBit i)
      have e : (2 : Int32) * nI i + ((nI k >>> (nI i &&& 31)) &&& 1) = nI (2 * i + (k.testBit i).toNat) := by
        rw [rn_bit (by omega) (by omega)]
        show nI 2 * nI i + _ = _
        rw [pk_mul, nI_add]
      rw [e, rn_shl1 (by omega), rn_or]
      refine nm_e (nm_r (nI_1 i) (hw _ ⟨Nat.or_lt_two_pow (n := 16) h.1 (Nat.pow_lt_pow_right (by omega) (by omega)), fun j => ?_⟩))
      rw [Nat.testBit_or, Nat.testBit_two_pow, Bool.or_eq_true, decide_eq_true_iff, h.2 j]
      constructor
      · rintro (g | g)
        · exact ⟨by omega, g.2⟩
        · refine ⟨by omega, by omega, ?_⟩
          rw [show j / 2 = i by omega]
          cases e' : k.testBit i
          · rw [e'] at g
            have g' : 2 * i + 0 = j := g
            rw [decide_eq_false (by omega)]
          · rw [e'] at g
            have g' : 2 * i + 1 = j := g
            rw [decide_eq_true (by omega)]
      · rintro ⟨g1, g2, g3⟩
        by_cases e' : j / 2 = i
        · right
          rw [e'] at g3
          rw [g3]
          rcases Nat.mod_two_eq_zero_or_one j with q | q
          · rw [decide_eq_false (by omega)]
            show 2 * i + 0 = j
            omega
          · rw [decide_eq_true (by omega)]
            show 2 * i + 1 = j
            omega
        · exact Or.inl ⟨by omega, g2, g3⟩
/-- the last number seen, from how many numbers were passed -/
def rn_la (l : Nat) : Int32 := if l = 0 then -1 else nI (l - 1)
theorem rn_la_0 : rn_la 0 = -1 := rfl
theorem rn_la_s (l : Nat) : rn_la (l + 1) = nI l := rfl
def rn_sol (n m : Nat) (C X Y Z D : Nat → Nat) (k : Nat) : Prop := rn_sat n m C X Y Z D (fun v => k.testBit v)
theorem rn_lt_neg {k : Nat} (hk : k < 2 ^ 31) : ¬ nI k ≤ -1 := by
  intro h
  rw [Int32.le_iff_toInt_le, nI_toInt hk] at h
  have h2 : (-1 : Int32).toInt = -1 := by decide
  rw [h2] at h
  omega
section
variable {n m : Nat} {fo : Int32} {a1 a2 a3 a4 a5 a6 a7 a8 a9 a10 a11 a12 a13 a14 : Nat → Int32} {K R C X Y Z D : Nat → Nat} {post : Int32 → St2 → Prop}
theorem rn_nextl {l : Nat} (hC : rn_core n m K R C X Y Z a1 a2 a3 a4 a5 a6 a7) (hA : rn_as n D a8) (hl : l ≤ 2 ^ n)
    (H0 : (∀ k, l ≤ k → k < 2 ^ n → ¬ rn_sol n m C X Y Z D k) → ∀ (bo : Int32) (b9 b10 b11 b12 b13 b14 : Nat → Int32), post (-1) (nI n, nI m, -1, 0, bo, a1, a2, a3, a4, a5, a6, a7, a8, b9, b10, b11, b12, b13, b14))
    (H1 : ∀ k, l ≤ k → k < 2 ^ n → rn_sol n m C X Y Z D k → (∀ j, l ≤ j → j < 2 ^ n → rn_sol n m C X Y Z D j → k ≤ j) → ∀ (bo : Int32) (b9 b10 b11 b12 b13 b14 : Nat → Int32), post (nI k) (nI n, nI m, -1, 0, bo, a1, a2, a3, a4, a5, a6, a7, a8, b9, b10, b11, b12, b13, b14)) : wpX_next post (nI n, nI m, -1, 0, fo, a1, a2, a3, a4, a5, a6, a7, a8, a9, a10, a11, a12, a13, a14) (rn_la l) := by
  have hv := hC.2.2.1
  cases l with
  | zero => exact rn_next0 hC hA (fun h => H0 (fun k _ _ g => h ⟨_, g⟩)) (fun k k1 k2 k3 => H1 k (by omega) k1 k2 (fun j _ j1 j2 => k3 j j1 j2))
  | succ l => exact rn_next (a := l) hC hA (by omega) (fun h => H0 (fun k k0 k1 => h k k1 (by omega))) (fun k k1 k0 k2 k3 => H1 k (by omega) k1 k2 (fun j j0 j1 j2 => k3 j j1 (by omega) j2))
theorem rn_h134 {B : Nat} (hC : rn_core n m K R C X Y Z a1 a2 a3 a4 a5 a6 a7) (hA : rn_as n D a8) (hB : B < 65536) (hBb : ∀ j, B.testBit j = true ↔ ∃ k, k < 2 ^ n ∧ rn_sol n m C X Y Z D k ∧ rn_shb n k j)
    (H : ∀ (bo : Int32) (b9 b10 b11 b12 b13 b14 : Nat → Int32), post 1 (nI n, nI m, -1, 0, bo, a1, a2, a3, a4, a5, a6, a7, a8, b9, b10, b11, b12, b13, b14)) : ∃ fu, wL_holds_134 post (nI n) (nI B) fu 0 (nI n) (nI m) (-1) 0 fo a1 a2 a3 a4 a5 a6 a7 a8 a9 a10 a11 a12 a13 a14 := by
  have n8 := hC.1.2.1
  have hv := hC.2.2.1
  refine pk_loop (fun f i (s : Int32 × (Nat → Int32) × (Nat → Int32) × (Nat → Int32) × (Nat → Int32) × (Nat → Int32) × (Nat → Int32)) => wL_holds_134 post (nI n) (nI B) f (nI i) (nI n) (nI m) (-1) 0 (s.1) a1 a2 a3 a4 a5 a6 a7 a8 (s.2.1) (s.2.2.1) (s.2.2.2.1) (s.2.2.2.2.1) (s.2.2.2.2.2.1) (s.2.2.2.2.2.2)) (fun _ _ => True) 16 0 (fo, a9, a10, a11, a12, a13, a14) (by omega) trivial (fun f s _ => pk_le 16 16 (fun _ => H s.1 s.2.1 s.2.2.1 s.2.2.2.1 s.2.2.2.2.1 s.2.2.2.2.2.1 s.2.2.2.2.2.2) (fun z => absurd z (by omega))) ?_
  intro f i s hi _ hw
  have e2 : (2 : Int32) * nI n = nI (2 * n) := pk_mul 2 n
  refine pk_le 16 i (fun z => absurd z (by omega)) (fun _ => pk_le (2 * n) i (fun z => nm_r (nI_1 i) (hw s trivial)) (fun z => ?_) e2)
  have e1 : nI i >>> ((1 : Int32) &&& 31) = nI (i / 2) := rn_shr (t := i) (k := 1) (by omega) (by omega)
  have e3 : nI i &&& 1 = nI (decide (i % 2 = 1)).toNat := by
    rw [rn_and1]
    rcases Nat.mod_two_eq_zero_or_one i with q | q
    · rw [q]; rfl
    · rw [q]; rfl
  rw [e1, e3, rn_bit (by omega) (by omega)]
  have key : (∃ f, rn_sat n m C X Y Z D f ∧ f (i / 2) = decide (i % 2 = 1)) ↔ B.testBit i = true := by
    rw [hBb i]
    constructor
    · rintro ⟨f, hf, e⟩
      obtain ⟨k, hk, he⟩ := rn_num f n
      refine ⟨k, hk, rn_sat_c hv (fun v hv' => (he v hv').symm) hf, by omega, ?_⟩
      rw [he _ (by omega)]; exact e
    · rintro ⟨k, hk, hs, _, e⟩
      exact ⟨_, hs, e⟩
  refine rn_possible (b := decide (i % 2 = 1)) hC hA (by omega) (fun hs co c9 c10 c11 c12 c13 c14 => br_t ?_ (nm_r (nI_1 i) (hw (co, c9, c10, c11, c12, c13, c14) trivial))) (fun hs co c9 c10 c11 c12 c13 c14 => br_t ?_ (nm_r (nI_1 i) (hw (co, c9, c10, c11, c12, c13, c14) trivial)))
  · rw [key.mp hs]; rfl
  · have : B.testBit i = false := by
      cases e : B.testBit i
      · rfl
      · exact absurd (key.mpr e) hs
    rw [this]; rfl
/-- the first number seen -/
def rn_fst (P : Nat → Prop) (N l : Nat) (x4 : Int32) : Prop := (rn_cnt P l = 0 ∧ x4 = -1) ∨ (∃ k, k < l ∧ P k ∧ (∀ j, j < N → P j → k ≤ j) ∧ x4 = nI k)
theorem rn_h84 {B l : Nat} {x4 : Int32} (hC : rn_core n m K R C X Y Z a1 a2 a3 a4 a5 a6 a7) (hA : rn_as n D a8) (hl : l ≤ 2 ^ n) (hno : ∀ k, l ≤ k → k < 2 ^ n → ¬ rn_sol n m C X Y Z D k) (hlast : l = 0 ∨ rn_sol n m C X Y Z D (l - 1)) (hf : rn_fst (rn_sol n m C X Y Z D) (2 ^ n) l x4) (hB : B < 65536) (hBb : ∀ j, B.testBit j = true ↔ ∃ k, k < l ∧ rn_sol n m C X Y Z D k ∧ rn_shb n k j)
    (H : ∀ (bo : Int32) (b9 b10 b11 b12 b13 b14 : Nat → Int32), post 1 (nI n, nI m, -1, 0, bo, a1, a2, a3, a4, a5, a6, a7, a8, b9, b10, b11, b12, b13, b14)) : wL_holds_84 post (nI n) (nI (rn_cnt (rn_sol n m C X Y Z D) l)) (rn_la l) x4 (nI B) (nI n) (nI m) (-1) 0 fo a1 a2 a3 a4 a5 a6 a7 a8 a9 a10 a11 a12 a13 a14 := by
  have n8 := hC.1.2.1
  have hv := hC.2.2.1
  have p8 : 2 ^ n ≤ 2 ^ 8 := Nat.pow_le_pow_right (by omega) n8
  have ct : rn_ct n m C X Y Z D = rn_cnt (rn_sol n m C X Y Z D) l := rn_cnt_gap hl hno
  have cl := rn_cnt_le (rn_sol n m C X Y Z D) l
  have hBb' : ∀ j, B.testBit j = true ↔ ∃ k, k < 2 ^ n ∧ rn_sol n m C X Y Z D k ∧ rn_shb n k j := by
    intro j
    rw [hBb j]
    constructor
    · rintro ⟨k, k1, k2, k3⟩
      exact ⟨k, by omega, k2, k3⟩
    · rintro ⟨k, k1, k2, k3⟩
      rcases Nat.lt_or_ge k l with g | g
      · exact ⟨k, g, k2, k3⟩
      · exact absurd k2 (hno k g k1)
  have h107 : ∀ (z : Int32) (bo : Int32) (b9 b10 b11 b12 b13 b14 : Nat → Int32), wL_holds_107 post (nI n) (rn_la l) x4 (nI B) z z (nI n) (nI m) (-1) 0 bo a1 a2 a3 a4 a5 a6 a7 a8 b9 b10 b11 b12 b13 b14 := by
    intro z bo b9 b10 b11 b12 b13 b14
    have gr : ∀ (bo : Int32) (b9 b10 b11 b12 b13 b14 : Nat → Int32), wpX_greatest (fun r_150 u => match u with | (f0_n_151, f0_listed_152, f0_skipped_153, f0_clash_154, f0_found_155, am1221_158, am1222_161, am1223_164, am1224_167, am1225_170, am1226_173, am1227_176, am1228_179, am1229_182, am12210_185, am12211_188, am12212_191, am12213_194, am12214_197) => (((r_150 = rn_la l → (∃ fu134 : Nat, wL_holds_134 post (nI n) (nI B) fu134 0 f0_n_151 f0_listed_152 f0_skipped_153 f0_clash_154 f0_found_155 am1221_158 am1222_161 am1223_164 am1224_167 am1225_170 am1226_173 am1227_176 am1228_179 am1229_182 am12210_185 am12211_188 am12212_191 am12213_194 am12214_197)) ∧ (¬ r_150 = rn_la l → (post 0 (f0_n_151, f0_listed_152, f0_skipped_153, f0_clash_154, f0_found_155, am1221_158, am1222_161, am1223_164, am1224_167, am1225_170, am1226_173, am1227_176, am1228_179, am1229_182, am12210_185, am12211_188, am12212_191, am12213_194, am12214_197)))))) (nI n, nI m, -1, 0, bo, a1, a2, a3, a4, a5, a6, a7, a8, b9, b10, b11, b12, b13, b14) := by
      intro bo b9 b10 b11 b12 b13 b14
      refine rn_greatest hC hA (fun hn co c9 c10 c11 c12 c13 c14 => br_t ?_ (rn_h134 hC hA hB hBb' H)) (fun k k1 k2 k3 co c9 c10 c11 c12 c13 c14 => br_t ?_ (rn_h134 hC hA hB hBb' H))
      · rcases hlast with e | e
        · rw [e]; rfl
        · exact absurd ⟨_, e⟩ hn
      · have kl : k < l := by
          rcases Nat.lt_or_ge k l with g | g
          · exact g
          · exact absurd k2 (hno k g k1)
        rcases hlast with e | e
        · omega
        · have := k3 (l - 1) (by omega) e
          obtain ⟨l', rfl⟩ : ∃ l', l = l' + 1 := ⟨l - 1, by omega⟩
          rw [rn_la_s, show k = l' by omega]
    refine br_t rfl (rn_least hC hA (fun hn co c9 c10 c11 c12 c13 c14 => br_t ?_ (gr co c9 c10 c11 c12 c13 c14)) (fun k k1 k2 k3 co c9 c10 c11 c12 c13 c14 => br_t ?_ (gr co c9 c10 c11 c12 c13 c14)))
    · rcases hf with e | ⟨k, _, e, _⟩
      · exact e.2.symm
      · exact absurd ⟨_, e⟩ hn
    · rcases hf with e | ⟨k0, h1, h2, h3, h4⟩
      · have kl : k < l := by
          rcases Nat.lt_or_ge k l with g | g
          · exact g
          · exact absurd k2 (hno k g k1)
        have := rn_cnt_pos (P := rn_sol n m C X Y Z D) kl k2
        omega
      · have q1 := k3 k0 (by omega) h2
        have q2 := h3 k k1 k2
        rw [h4, show k = k0 by omega]
  unfold wL_holds_84
  refine rn_solutions hC hA (fun bo b9 b10 b11 b12 b13 b14 => br_t (by rw [ct]) (rn_satisfiable hC hA (fun hs co c9 c10 c11 c12 c13 c14 => ?_) (fun hs co c9 c10 c11 c12 c13 c14 => ?_)))
  · have := (rn_ct_ex hv).mpr hs
    exact pk_le (rn_cnt (rn_sol n m C X Y Z D) l) 0 (fun z => absurd z (by omega)) (fun _ => h107 1 co c9 c10 c11 c12 c13 c14)
  · have : ¬ 0 < rn_ct n m C X Y Z D := fun g => hs ((rn_ct_ex hv).mp g)
    exact pk_le (rn_cnt (rn_sol n m C X Y Z D) l) 0 (fun _ => h107 0 co c9 c10 c11 c12 c13 c14) (fun z => absurd z (by omega))
theorem rn_holds (hC : rn_core n m K R C X Y Z a1 a2 a3 a4 a5 a6 a7) (hA : rn_as n D a8) (H : ∀ (bo : Int32) (b9 b10 b11 b12 b13 b14 : Nat → Int32), post 1 (nI n, nI m, -1, 0, bo, a1, a2, a3, a4, a5, a6, a7, a8, b9, b10, b11, b12, b13, b14)) : wpL_holds post (nI n, nI m, -1, 0, fo, a1, a2, a3, a4, a5, a6, a7, a8, a9, a10, a11, a12, a13, a14) (nI n) := by
  have n8 := hC.1.2.1
  have hv := hC.2.2.1
  have p8 : 2 ^ n ≤ 2 ^ 8 := Nat.pow_le_pow_right (by omega) n8
  refine pk_loop (fun f i (s : Nat × Nat × Int32 × Int32 × (Nat → Int32) × (Nat → Int32) × (Nat → Int32) × (Nat → Int32) × (Nat → Int32) × (Nat → Int32)) => wL_holds_13 post (nI n) f (nI i) (rn_la s.1) s.2.2.1 (nI s.2.1) (nI i) (nI n) (nI m) (-1) 0 (s.2.2.2.1) a1 a2 a3 a4 a5 a6 a7 a8 (s.2.2.2.2.1) (s.2.2.2.2.2.1) (s.2.2.2.2.2.2.1) (s.2.2.2.2.2.2.2.1) (s.2.2.2.2.2.2.2.2.1) (s.2.2.2.2.2.2.2.2.2)) (fun i s => i = rn_cnt (rn_sol n m C X Y Z D) s.1 ∧ s.1 ≤ 2 ^ n ∧ (s.1 = 0 ∨ rn_sol n m C X Y Z D (s.1 - 1)) ∧ rn_fst (rn_sol n m C X Y Z D) (2 ^ n) s.1 s.2.2.1 ∧ s.2.1 < 65536 ∧ ∀ j, (s.2.1.testBit j = true ↔ ∃ k, k < s.1 ∧ rn_sol n m C X Y Z D k ∧ rn_shb n k j)) 257 0 (0, 0, -1, fo, a9, a10, a11, a12, a13, a14) (by omega) ⟨rfl, Nat.zero_le _, Or.inl rfl, Or.inl ⟨rfl, rfl⟩, by show 0 < 65536; omega, fun j => ⟨fun g => ?_, fun ⟨k, hk, _⟩ => absurd hk (Nat.not_lt_zero k)⟩⟩ ?_ ?_
  · have g' : Nat.testBit 0 j = true := g
    rw [Nat.zero_testBit] at g'
    exact absurd g' (by decide)
  · intro f s h
    have := rn_cnt_le (rn_sol n m C X Y Z D) s.1
    obtain ⟨h1, h2, _⟩ := h
    omega
  · intro f i s hi h hw
    obtain ⟨l, B, x4, co, c9, c10, c11, c12, c13, c14⟩ := s
    obtain ⟨h1, h2, h3, h4, h5, h6⟩ := h
    replace h1 : i = rn_cnt (rn_sol n m C X Y Z D) l := h1
    replace h2 : l ≤ 2 ^ n := h2
    replace h3 : l = 0 ∨ rn_sol n m C X Y Z D (l - 1) := h3
    replace h4 : rn_fst (rn_sol n m C X Y Z D) (2 ^ n) l x4 := h4
    replace h5 : B < 65536 := h5
    replace h6 : ∀ j, (B.testBit j = true ↔ ∃ k, k < l ∧ rn_sol n m C X Y Z D k ∧ rn_shb n k j) := h6
    show wL_holds_13 post (nI n) (f + 1) (nI i) (rn_la l) x4 (nI B) (nI i) (nI n) (nI m) (-1) 0 co a1 a2 a3 a4 a5 a6 a7 a8 c9 c10 c11 c12 c13 c14
    refine pk_lt 256 i (fun z => absurd z (by omega)) (fun _ => rn_nextl hC hA h2 (fun hn eo e9 e10 e11 e12 e13 e14 => br_t rfl ?_) (fun k k1 k2 k3 k4 eo e9 e10 e11 e12 e13 e14 => br_f (rn_ne1 (by omega)) (br_f ?_ (br_t ?_ ?_))))
    · rw [h1]
      exact rn_h84 hC hA h2 hn h3 h4 h5 h6 H
    · cases l with
      | zero => exact rn_lt_neg (by omega)
      | succ l => exact nI_ge (by omega) (by omega)
    · rw [rn_shl1 (by omega)]
      exact nI_lt k2 (by omega)
    · have gap : rn_cnt (rn_sol n m C X Y Z D) (k + 1) = i + 1 := by
        rw [rn_cnt_t k3, h1]
        congr 1
        exact rn_cnt_gap k1 (fun j j1 j2 g => absurd (k4 j j1 (by omega) g) (by omega))
      have g61 : ∀ y4 : Int32, rn_fst (rn_sol n m C X Y Z D) (2 ^ n) (k + 1) y4 → wL_holds_61 post (wL_holds_13 post (nI n) f) (nI n) (nI i) y4 (nI B) (nI i) (nI k) (nI n) (nI m) (-1) 0 eo a1 a2 a3 a4 a5 a6 a7 a8 e9 e10 e11 e12 e13 e14 := by
        intro y4 hy
        unfold wL_holds_61
        refine nm_r (nI_1 i) (rn_shown n8 (by omega) (fun S hS hSb => nm_r (rn_or B S) (nm_r (nI_1 i) ?_)))
        refine hw (k + 1, B ||| S, y4, eo, e9, e10, e11, e12, e13, e14) ⟨gap.symm, k2, Or.inr k3, hy, Nat.or_lt_two_pow (n := 16) h5 hS, fun j => ?_⟩
        show (B ||| S).testBit j = true ↔ ∃ k', k' < k + 1 ∧ rn_sol n m C X Y Z D k' ∧ rn_shb n k' j
        rw [Nat.testBit_or, Bool.or_eq_true, h6 j, hSb j]
        constructor
        · rintro (⟨q, q1, q2, q3⟩ | q)
          · exact ⟨q, by omega, q2, q3⟩
          · exact ⟨k, by omega, k3, q⟩
        · rintro ⟨q, q1, q2, q3⟩
          by_cases e' : q = k
          · rw [e'] at q3
            exact Or.inr q3
          · refine Or.inl ⟨q, ?_, q2, q3⟩
            rcases Nat.lt_or_ge q l with g | g
            · exact g
            · have := k4 q g (by omega) q2
              omega
      refine pk_eq i 0 (fun e0 => g61 (nI k) (Or.inr ⟨k, by omega, k3, fun j j1 j2 => ?_, rfl⟩)) (fun e0 => g61 x4 ?_)
      · rcases Nat.lt_or_ge j l with g | g
        · have := rn_cnt_pos (P := rn_sol n m C X Y Z D) g j2
          omega
        · exact k4 j g j1 j2
      · rcases h4 with g | ⟨k0, g1, g2, g3, g4⟩
        · omega
        · exact Or.inr ⟨k0, by omega, g2, g3, g4⟩
end
end
section
/-! part 17: traitsOf -/
theorem rn_k64 : ∀ k, k < 64 → nI k >>> ((3 : Int32) &&& 31) = nI (k / 8) ∧ nI k &&& 7 = nI (k % 8) := by decide +kernel
theorem rn_k512 : ∀ k, k < 512 → nI k >>> ((6 : Int32) &&& 31) = nI (k / 64) ∧ (nI k >>> ((3 : Int32) &&& 31)) &&& 7 = nI (k / 8 % 8) ∧ nI k &&& 7 = nI (k % 8) := by decide +kernel
theorem rn_lt8a {s t : Nat} (hs : s < 8) : (s &&& t) < 8 := Nat.lt_of_le_of_lt Nat.and_le_left hs
theorem rn_lt8o {s t : Nat} (hs : s < 8) (ht : t < 8) : (s ||| t) < 8 := Nat.or_lt_two_pow (n := 3) hs ht
theorem rn_lt8x {s t : Nat} (hs : s < 8) (ht : t < 8) : (s ^^^ t) < 8 := Nat.xor_lt_two_pow (n := 3) hs ht
/-- the flag p says no more than that the first i places are closed under g -/
def rn_cl2 (T : Nat) (g : Nat → Nat → Nat) (i : Nat) (p : Bool) : Prop := p = true → ∀ k, k < i → T.testBit (k / 8) = true → T.testBit (k % 8) = true → T.testBit (g (k / 8) (k % 8)) = true
theorem rn_cl2_v {T : Nat} {g : Nat → Nat → Nat} {i : Nat} {p : Bool} (h : rn_cl2 T g i p) (hv : ¬ (T.testBit (i / 8) = true ∧ T.testBit (i % 8) = true)) : rn_cl2 T g (i + 1) p := by
  intro hp k hk h1 h2
  by_cases e : k = i
  · rw [e] at h1 h2
    exact absurd ⟨h1, h2⟩ hv
  · exact h hp k (by omega) h1 h2
theorem rn_cl2_t {T : Nat} {g : Nat → Nat → Nat} {i : Nat} {p : Bool} (h : rn_cl2 T g i p) (hv : T.testBit (g (i / 8) (i % 8)) = true) : rn_cl2 T g (i + 1) p := by
  intro hp k hk h1 h2
  by_cases e : k = i
  · rw [e]; exact hv
  · exact h hp k (by omega) h1 h2
theorem rn_cl2_f {T : Nat} {g : Nat → Nat → Nat} {i : Nat} : rn_cl2 T g i false := fun h => absurd h (by decide)
theorem rn_pairs {post : Int32 → Prop} {T : Nat} (hT : T < 256) (H : ∀ p q : Bool, (p = true → rn_mc T) → (q = true → rn_jc T) → post (nI (4 * p.toNat + 8 * q.toNat))) : wpX_closedUnderPairs post () (nI T) := by
  refine pk_loop (fun f i (s : Bool × Bool) => wX_closedUnderPairs_6 post (nI T) f (nI s.1.toNat) (nI s.2.toNat) (nI i)) (fun i s => rn_cl2 T (fun a b => a &&& b) i s.1 ∧ rn_cl2 T (fun a b => a ||| b) i s.2) 64 0 (true, true) (by omega) ⟨fun _ k hk => absurd hk (by omega), fun _ k hk => absurd hk (by omega)⟩ ?_ ?_
  · intro f s h
    obtain ⟨p, q⟩ := s
    obtain ⟨h1, h2⟩ := h
    have G := H p q (fun e s hs t ht g1 g2 => ?_) (fun e s hs t ht g1 g2 => ?_)
    · refine pk_le 64 64 (fun _ => ?_) (fun z => absurd z (by omega))
      clear h1 h2 H
      cases p <;> cases q
      · exact br_t rfl (br_t rfl G)
      · exact br_t rfl (br_f (by decide) G)
      · exact br_f (by decide) (br_t rfl G)
      · exact br_f (by decide) (br_f (by decide) G)
    · have := h1 e (8 * s + t) (by omega)
      rw [show (8 * s + t) / 8 = s by omega, show (8 * s + t) % 8 = t by omega] at this
      exact this g1 g2
    · have := h2 e (8 * s + t) (by omega)
      rw [show (8 * s + t) / 8 = s by omega, show (8 * s + t) % 8 = t by omega] at this
      exact this g1 g2
  · intro f i s hi h hw
    obtain ⟨p, q⟩ := s
    obtain ⟨h1, h2⟩ := h
    replace h1 : rn_cl2 T (fun a b => a &&& b) i p := h1
    replace h2 : rn_cl2 T (fun a b => a ||| b) i q := h2
    obtain ⟨e1, e2⟩ := rn_k64 i hi
    have s8 : i / 8 < 8 := by omega
    have t8 : i % 8 < 8 := by omega
    have nb : ∀ {u : Bool}, u = false → ¬ u = true := fun h g => absurd (h.symm.trans g) (by decide)
    have J : ∀ p' q' : Bool, rn_cl2 T (fun a b => a &&& b) (i + 1) p' → rn_cl2 T (fun a b => a ||| b) (i + 1) q' → wX_closedUnderPairs_6 post (nI T) f (nI p'.toNat) (nI q'.toNat) (nI (i + 1)) := fun p' q' k1 k2 => hw (p', q') ⟨k1, k2⟩
    have g62 : ∀ p' : Bool, rn_cl2 T (fun a b => a &&& b) (i + 1) p' → wX_closedUnderPairs_62 post (wX_closedUnderPairs_6 post (nI T) f) (nI T) (nI q.toNat) (nI i) (nI (i / 8)) (nI (i % 8)) (nI p'.toNat) := by
      intro p' k1
      have A : q = false → wX_closedUnderPairs_6 post (nI T) f (nI p'.toNat) 0 (nI (i + 1)) := fun e => J p' false k1 rn_cl2_f
      unfold wX_closedUnderPairs_62
      rw [rn_or]
      cases q
      · exact br_t rfl (nm_r (nI_1 i) (J p' false k1 rn_cl2_f))
      · exact br_f (by decide) (rn_hs T (i / 8 ||| i % 8) (by omega) (by have := rn_lt8o s8 t8; omega) (fun g => nm_r (nI_1 i) (J p' true k1 (rn_cl2_t h2 g))) (fun g => nm_r (nI_1 i) (J p' false k1 rn_cl2_f)))
    show wX_closedUnderPairs_6 post (nI T) (f + 1) (nI p.toNat) (nI q.toNat) (nI i)
    refine pk_le 64 i (fun z => absurd z (by omega)) (fun _ => nm_r e1 (nm_r e2 (rn_hs T (i / 8) (by omega) (by omega) (fun gs => rn_hs T (i % 8) (by omega) (by omega) (fun gt => ?_) (fun gt => nm_r (nI_1 i) (J p q (rn_cl2_v h1 (fun k => nb gt k.2)) (rn_cl2_v h2 (fun k => nb gt k.2))))) (fun gs => nm_r (nI_1 i) (J p q (rn_cl2_v h1 (fun k => nb gs k.1)) (rn_cl2_v h2 (fun k => nb gs k.1)))))))
    rw [rn_and]
    clear J hw
    cases p
    · exact br_t rfl (g62 false rn_cl2_f)
    · exact br_f (by decide) (rn_hs T (i / 8 &&& i % 8) (by omega) (by have := rn_lt8a (t := i % 8) s8; omega) (fun g => g62 true (rn_cl2_t h1 g)) (fun g => g62 false rn_cl2_f))
def rn_cl3 (T : Nat) (g : Nat → Nat → Nat → Nat) (i : Nat) (p : Bool) : Prop := p = true → ∀ k, k < i → T.testBit (k / 64) = true → T.testBit (k / 8 % 8) = true → T.testBit (k % 8) = true → T.testBit (g (k / 64) (k / 8 % 8) (k % 8)) = true
theorem rn_cl3_v {T : Nat} {g : Nat → Nat → Nat → Nat} {i : Nat} {p : Bool} (h : rn_cl3 T g i p) (hv : ¬ (T.testBit (i / 64) = true ∧ T.testBit (i / 8 % 8) = true ∧ T.testBit (i % 8) = true)) : rn_cl3 T g (i + 1) p := by
  intro hp k hk h1 h2 h3
  by_cases e : k = i
  · rw [e] at h1 h2 h3
    exact absurd ⟨h1, h2, h3⟩ hv
  · exact h hp k (by omega) h1 h2 h3
theorem rn_cl3_t {T : Nat} {g : Nat → Nat → Nat → Nat} {i : Nat} {p : Bool} (h : rn_cl3 T g i p) (hv : T.testBit (g (i / 64) (i / 8 % 8) (i % 8)) = true) : rn_cl3 T g (i + 1) p := by
  intro hp k hk h1 h2 h3
  by_cases e : k = i
  · rw [e]; exact hv
  · exact h hp k (by omega) h1 h2 h3
theorem rn_cl3_f {T : Nat} {g : Nat → Nat → Nat → Nat} {i : Nat} : rn_cl3 T g i false := fun h => absurd h (by decide)
theorem rn_triples {post : Int32 → Prop} {T : Nat} (hT : T < 256) (H : ∀ p q : Bool, (p = true → rn_ma T) → (q = true → rn_xc T) → post (nI (16 * p.toNat + 32 * q.toNat))) : wpX_closedUnderTriples post () (nI T) := by
  refine pk_loop (fun f i (s : Bool × Bool) => wX_closedUnderTriples_6 post (nI T) f (nI s.1.toNat) (nI s.2.toNat) (nI i)) (fun i s => rn_cl3 T (fun a b c => (a &&& b) ||| (a &&& c) ||| (b &&& c)) i s.1 ∧ rn_cl3 T (fun a b c => a ^^^ b ^^^ c) i s.2) 512 0 (true, true) (by omega) ⟨fun _ k hk => absurd hk (by omega), fun _ k hk => absurd hk (by omega)⟩ ?_ ?_
  · intro f s h
    obtain ⟨p, q⟩ := s
    obtain ⟨h1, h2⟩ := h
    have G := H p q (fun e s hs t ht u hu g1 g2 g3 => ?_) (fun e s hs t ht u hu g1 g2 g3 => ?_)
    · refine pk_le 512 512 (fun _ => ?_) (fun z => absurd z (by omega))
      clear h1 h2 H
      cases p <;> cases q
      · exact br_t rfl (br_t rfl G)
      · exact br_t rfl (br_f (by decide) G)
      · exact br_f (by decide) (br_t rfl G)
      · exact br_f (by decide) (br_f (by decide) G)
    · have := h1 e (64 * s + 8 * t + u) (by omega)
      rw [show (64 * s + 8 * t + u) / 64 = s by omega, show (64 * s + 8 * t + u) / 8 % 8 = t by omega, show (64 * s + 8 * t + u) % 8 = u by omega] at this
      exact this g1 g2 g3
    · have := h2 e (64 * s + 8 * t + u) (by omega)
      rw [show (64 * s + 8 * t + u) / 64 = s by omega, show (64 * s + 8 * t + u) / 8 % 8 = t by omega, show (64 * s + 8 * t + u) % 8 = u by omega] at this
      exact this g1 g2 g3
  · intro f i s hi h hw
    obtain ⟨p, q⟩ := s
    obtain ⟨h1, h2⟩ := h
    replace h1 : rn_cl3 T (fun a b c => (a &&& b) ||| (a &&& c) ||| (b &&& c)) i p := h1
    replace h2 : rn_cl3 T (fun a b c => a ^^^ b ^^^ c) i q := h2
    obtain ⟨e1, e2, e3⟩ := rn_k512 i hi
    have s8 : i / 64 < 8 := by omega
    have t8 : i / 8 % 8 < 8 := by omega
    have u8 : i % 8 < 8 := by omega
    have nb : ∀ {u : Bool}, u = false → ¬ u = true := fun h g => absurd (h.symm.trans g) (by decide)
    have J : ∀ p' q' : Bool, rn_cl3 T (fun a b c => (a &&& b) ||| (a &&& c) ||| (b &&& c)) (i + 1) p' → rn_cl3 T (fun a b c => a ^^^ b ^^^ c) (i + 1) q' → wX_closedUnderTriples_6 post (nI T) f (nI p'.toNat) (nI q'.toNat) (nI (i + 1)) := fun p' q' k1 k2 => hw (p', q') ⟨k1, k2⟩
    have g97 : ∀ p' : Bool, rn_cl3 T (fun a b c => (a &&& b) ||| (a &&& c) ||| (b &&& c)) (i + 1) p' → wX_closedUnderTriples_97 post (wX_closedUnderTriples_6 post (nI T) f) (nI T) (nI q.toNat) (nI i) (nI (i / 64)) (nI (i / 8 % 8)) (nI (i % 8)) (nI p'.toNat) := by
      intro p' k1
      unfold wX_closedUnderTriples_97
      rw [rn_xor, rn_xor]
      cases q
      · exact br_t rfl (nm_r (nI_1 i) (J p' false k1 rn_cl3_f))
      · exact br_f (by decide) (rn_hs T (i / 64 ^^^ i / 8 % 8 ^^^ i % 8) (by omega) (by have := rn_lt8x (rn_lt8x s8 t8) u8; omega) (fun g => nm_r (nI_1 i) (J p' true k1 (rn_cl3_t h2 g))) (fun g => nm_r (nI_1 i) (J p' false k1 rn_cl3_f)))
    have vac : ¬ (T.testBit (i / 64) = true ∧ T.testBit (i / 8 % 8) = true ∧ T.testBit (i % 8) = true) → wX_closedUnderTriples_6 post (nI T) f (nI p.toNat) (nI q.toNat) (nI (i + 1)) := fun k => J p q (rn_cl3_v h1 k) (rn_cl3_v h2 k)
    show wX_closedUnderTriples_6 post (nI T) (f + 1) (nI p.toNat) (nI q.toNat) (nI i)
    refine pk_le 512 i (fun z => absurd z (by omega)) (fun _ => nm_r e1 (nm_r e2 (nm_r e3 (rn_hs T (i / 64) (by omega) (by omega) (fun gs => rn_hs T (i / 8 % 8) (by omega) (by omega) (fun gt => rn_hs T (i % 8) (by omega) (by omega) (fun gu => ?_) (fun gu => nm_r (nI_1 i) (vac (fun k => nb gu k.2.2)))) (fun gt => nm_r (nI_1 i) (vac (fun k => nb gt k.2.1)))) (fun gs => nm_r (nI_1 i) (vac (fun k => nb gs k.1)))))))
    rw [rn_and, rn_and, rn_and, rn_or, rn_or]
    have l8 := rn_lt8o (rn_lt8o (rn_lt8a (t := i / 8 % 8) s8) (rn_lt8a (t := i % 8) s8)) (rn_lt8a (t := i % 8) t8)
    clear J hw vac
    refine nm_e ?_
    cases p
    · exact br_t rfl (g97 false rn_cl3_f)
    · exact br_f (by decide) (rn_hs T ((i / 64 &&& i / 8 % 8) ||| (i / 64 &&& i % 8) ||| (i / 8 % 8 &&& i % 8)) (by omega) (by omega) (fun g => g97 true (rn_cl3_t h1 g)) (fun g => g97 false rn_cl3_f))
theorem rn_t33 {post : Int32 → Prop} {T k : Nat} (hT : T < 256) (H : ∀ b : Bool, post (nI (k + 64 * b.toNat))) : ∃ fu, wX_traitsOf_33 post (nI T) (nI k) fu 1 0 := by
  refine pk_loop (fun f i (s : Bool) => wX_traitsOf_33 post (nI T) (nI k) f (nI s.toNat) (nI i)) (fun _ _ => True) 8 0 true (by omega) trivial ?_ ?_
  · intro f s _
    refine pk_le 8 8 (fun _ => ?_) (fun z => absurd z (by omega))
    cases s
    · exact br_t rfl (H false)
    · refine br_f (by decide) ?_
      have := H true
      rw [show nI k + 64 = nI (k + 64 * true.toNat) from nI_add k 64]
      exact this
  · intro f i s hi _ hw
    have e7 : (7 : Int32) - nI i = nI (7 - i) := pk_sub (a := 7) (by omega)
    exact pk_le 8 i (fun z => absurd z (by omega)) (fun _ => rn_hs T i (by omega) (by omega) (fun _ => rn_hs T (7 - i) (by omega) (by omega) (fun _ => nm_r (nI_1 i) (hw s trivial)) (fun _ => nm_r (nI_1 i) (hw false trivial)) rfl e7) (fun _ => nm_r (nI_1 i) (hw s trivial)))
theorem rn_mkb : ∀ b0 b1 b2 b3 b4 b5 b6 : Bool, ((b0.toNat + 2 * b1.toNat) + (4 * b2.toNat + 8 * b3.toNat) + (16 * b4.toNat + 32 * b5.toNat) + 64 * b6.toNat) < 128 ∧ ((b0.toNat + 2 * b1.toNat) + (4 * b2.toNat + 8 * b3.toNat) + (16 * b4.toNat + 32 * b5.toNat) + 64 * b6.toNat).testBit 2 = b2 ∧ ((b0.toNat + 2 * b1.toNat) + (4 * b2.toNat + 8 * b3.toNat) + (16 * b4.toNat + 32 * b5.toNat) + 64 * b6.toNat).testBit 3 = b3 ∧ ((b0.toNat + 2 * b1.toNat) + (4 * b2.toNat + 8 * b3.toNat) + (16 * b4.toNat + 32 * b5.toNat) + 64 * b6.toNat).testBit 4 = b4 ∧ ((b0.toNat + 2 * b1.toNat) + (4 * b2.toNat + 8 * b3.toNat) + (16 * b4.toNat + 32 * b5.toNat) + 64 * b6.toNat).testBit 5 = b5 := by decide +kernel
theorem rn_traitsOf {post : Int32 → Prop} {T : Nat} (hT : T < 256) (H : ∀ k, k < 128 → rn_mk T k → post (nI k)) : wpX_traitsOf post () (nI T) := by
  unfold wpX_traitsOf
  have e : (1 : Int32) * (nI T &&& 1) + 2 * ((nI T >>> ((7 : Int32) &&& 31)) &&& 1) = nI ((T.testBit 0).toNat + 2 * (T.testBit 7).toNat) := by
    have h7 : (nI T >>> ((7 : Int32) &&& 31)) &&& 1 = nI (T.testBit 7).toNat := rn_bit (k := 7) (by omega) (by omega)
    have h0 : nI T &&& 1 = nI (T.testBit 0).toNat := by rw [rn_and1, Nat.toNat_testBit, Nat.pow_zero, Nat.div_one]
    rw [h7, h0]
    show nI 1 * _ + nI 2 * _ = _
    rw [pk_mul, pk_mul, nI_add, Nat.one_mul]
  refine nm_r e (rn_pairs hT (fun p q h1 h2 => nm_r (nI_add _ _) (rn_triples hT (fun p' q' h3 h4 => nm_r (nI_add _ _) (rn_t33 hT (fun b => ?_))))))
  obtain ⟨m0, m2, m3, m4, m5⟩ := rn_mkb (T.testBit 0) (T.testBit 7) p q p' q' b
  refine H _ m0 ⟨fun g => h1 ?_, fun g => h2 ?_, fun g => h3 ?_, fun g => h4 ?_⟩
  · rw [m2] at g; exact g
  · rw [m3] at g; exact g
  · rw [m4] at g; exact g
  · rw [m5] at g; exact g
end
section
/-! part 18: what the object holds between calls; define, require, retract, assume -/
def rn_use (a4 : Nat → Int32) (x : Int32) : Nat → Nat
  | 0 => 0
  | c + 1 => rn_use a4 x c + (if a4 c = x then 1 else 0)
theorem rn_use_c {a b : Nat → Int32} {x : Int32} {k : Nat} (h : ∀ c, c < k → b c = a c) : rn_use b x k = rn_use a x k := by
  induction k with
  | zero => rfl
  | succ k ih =>
    show rn_use b x k + _ = rn_use a x k + _
    rw [ih (fun c hc => h c (by omega)), h k (by omega)]
theorem rn_use_le (a : Nat → Int32) (x : Int32) (k : Nat) : rn_use a x k ≤ k := by
  induction k with
  | zero => exact Nat.le_refl 0
  | succ k ih =>
    show rn_use a x k + _ ≤ _
    split <;> omega
theorem rn_use_pos {a : Nat → Int32} {x : Int32} {k c : Nat} (hc : c < k) (h : a c = x) : 0 < rn_use a x k := by
  induction k with
  | zero => omega
  | succ k ih =>
    show 0 < rn_use a x k + _
    by_cases e : c = k
    · rw [← e, if_pos h]; omega
    · have := ih (by omega)
      omega
theorem rn_use_s {a s : Nat → Int32} {x : Int32} {i : Nat} (d : Nat) (h0 : ∀ c, c < i → s c = a c) (h1 : ∀ c, i ≤ c → c < i + d → s c = a (c + 1)) : rn_use s x (i + d) + (if a i = x then 1 else 0) = rn_use a x (i + d + 1) := by
  induction d with
  | zero =>
    show rn_use s x i + _ = rn_use a x i + _
    rw [rn_use_c h0]
  | succ d ih =>
    have ih' := ih (fun c c1 c2 => h1 c c1 (by omega))
    show rn_use s x (i + d) + (if s (i + d) = x then 1 else 0) + (if a i = x then 1 else 0) = rn_use a x (i + d + 1) + (if a (i + d + 1) = x then 1 else 0)
    rw [← ih', h1 (i + d) (by omega) (by omega)]
    omega
def rn_inv (n m : Nat) (a1 a2 a3 a4 a5 a6 a7 a8 : Nat → Int32) : Prop :=
  (2 ≤ n ∧ n ≤ 8 ∧ m ≤ 20) ∧ (∀ r, r < 6 → ∃ t k, t < 256 ∧ k < 128 ∧ a1 r = nI t ∧ a2 r = nI k ∧ rn_mk t k) ∧ (∀ r, r < 6 → a3 r = nI (rn_use a4 (nI r) m)) ∧
  (∀ c, c < m → (∃ r, r < 6 ∧ a4 c = nI r) ∧ (∃ x, x < n ∧ a5 c = nI x) ∧ (∃ x, x < n ∧ a6 c = nI x) ∧ (∃ x, x < n ∧ a7 c = nI x)) ∧ (∀ v, v < 8 → ∃ q, q ≤ 2 ∧ a8 v = nI q)
theorem rn_pic {x : Int32} {N : Nat} (h : ∃ r, r < N ∧ x = nI r) (hN : N < 2 ^ 31) : x.toNatClampNeg < N ∧ x = nI x.toNatClampNeg := by
  obtain ⟨r, h1, rfl⟩ := h
  rw [nI_clamp (by omega)]
  exact ⟨h1, rfl⟩
theorem rn_inv_core {n m : Nat} {a1 a2 a3 a4 a5 a6 a7 a8 : Nat → Int32} (h : rn_inv n m a1 a2 a3 a4 a5 a6 a7 a8) : rn_core n m (fun r => (a2 r).toNatClampNeg) (fun c => (a4 c).toNatClampNeg) (fun c => (a1 (a4 c).toNatClampNeg).toNatClampNeg) (fun c => (a5 c).toNatClampNeg) (fun c => (a6 c).toNatClampNeg) (fun c => (a7 c).toNatClampNeg) a1 a2 a3 a4 a5 a6 a7 := by
  obtain ⟨hn, h1, h3, h4, h8⟩ := h
  refine ⟨hn, fun r hr => ?_, fun c hc => ?_, fun c hc => ?_⟩
  · obtain ⟨t, k, t1, k1, e1, e2, _⟩ := h1 r hr
    have := rn_pic ⟨k, k1, e2⟩ (by omega)
    exact ⟨this.2, this.1⟩
  · obtain ⟨_, q5, q6, q7⟩ := h4 c hc
    exact ⟨(rn_pic q5 (by omega)).1, (rn_pic q6 (by omega)).1, (rn_pic q7 (by omega)).1⟩
  · obtain ⟨q4, q5, q6, q7⟩ := h4 c hc
    obtain ⟨r6, e4⟩ := rn_pic q4 (by omega)
    obtain ⟨t, k, t1, k1, e1, e2, mk⟩ := h1 _ r6
    have pt := rn_pic ⟨t, t1, e1⟩ (by omega)
    have u := rn_use_pos (a := a4) (x := nI (a4 c).toNatClampNeg) hc e4
    have ul := rn_use_le a4 (nI (a4 c).toNatClampNeg) m
    refine ⟨r6, pt.1, e4, pt.2, (rn_pic q5 (by omega)).2, (rn_pic q6 (by omega)).2, (rn_pic q7 (by omega)).2, ?_, ?_⟩
    · rw [h3 _ r6]
      exact nI_nle u (by omega)
    · show rn_mk (a1 (a4 c).toNatClampNeg).toNatClampNeg (a2 (a4 c).toNatClampNeg).toNatClampNeg
      rw [e1, e2, nI_clamp (by omega), nI_clamp (by omega)]
      exact mk
theorem rn_inv_as {n m : Nat} {a1 a2 a3 a4 a5 a6 a7 a8 : Nat → Int32} (h : rn_inv n m a1 a2 a3 a4 a5 a6 a7 a8) : rn_as n (fun v => if a8 v = 2 then 3 else if a8 v = 1 then 2 else 1) a8 := by
  intro v hv
  obtain ⟨q, q2, e⟩ := h.2.2.2.2 v (by have := h.1.2.1; omega)
  show (if a8 v = 2 then 3 else if a8 v = 1 then 2 else 1) < 4 ∧ (a8 v = 2 → (if a8 v = 2 then 3 else if a8 v = 1 then 2 else 1) = 3) ∧ (¬ a8 v = 2 → (1 : Int32) <<< (a8 v &&& 31) = nI (if a8 v = 2 then 3 else if a8 v = 1 then 2 else 1))
  rw [e]
  rcases (show q = 0 ∨ q = 1 ∨ q = 2 by omega) with g | g | g
  · rw [g]; decide +kernel
  · rw [g]; decide +kernel
  · rw [g]; decide +kernel
section
variable {n m : Nat} {fo : Int32} {a1 a2 a3 a4 a5 a6 a7 a8 a9 a10 a11 a12 a13 a14 : Nat → Int32} {post : Int32 → St2 → Prop}
theorem rn_isVarQ {post : Int32 → Prop} {v : Nat} (n8 : n ≤ 8) (hv : v < 2 ^ 31) (H0 : n ≤ v → post 0) (H1 : v < n → post 1) : wpX_isVar post (nI n, nI m, -1, 0, fo, a1, a2, a3, a4, a5, a6, a7, a8, a9, a10, a11, a12, a13, a14) (nI v) :=
  br_f (nI_pos hv) (pk_le n v (fun z => H0 z) (fun z => H1 z))
theorem rn_define {r t : Nat} (hI : rn_inv n m a1 a2 a3 a4 a5 a6 a7 a8) (hr : r < 8) (ht : t < 256) (H : ∀ q b1 b2, rn_inv n m b1 b2 a3 a4 a5 a6 a7 a8 → post q (nI n, nI m, -1, 0, fo, b1, b2, a3, a4, a5, a6, a7, a8, a9, a10, a11, a12, a13, a14)) : wpX_define post (nI n, nI m, -1, 0, fo, a1, a2, a3, a4, a5, a6, a7, a8, a9, a10, a11, a12, a13, a14) (nI r) (nI t) := by
  obtain ⟨hn, h1, h3, h4, h8⟩ := hI
  have hI : rn_inv n m a1 a2 a3 a4 a5 a6 a7 a8 := ⟨hn, h1, h3, h4, h8⟩
  unfold wpX_define
  refine br_f (nI_pos (by omega)) (pk_le r 5 (fun r5 => br_f (nI_pos (by omega)) (pk_le t 255 (fun _ => ⟨pk_in r 6 (by omega), br_c (fun _ => ⟨pk_in r 6 (by omega), ?_⟩) (fun _ => H _ a1 a2 hI)⟩) (fun z => absurd z (by omega)))) (fun _ => H _ a1 a2 hI))
  rw [nI_clamp (show r < 2 ^ 31 by omega)]
  refine nm_e (rn_traitsOf ht (fun k k1 k2 => ⟨pk_in r 6 (by omega), nm_e ?_⟩))
  have hJ : rn_inv n m (upd a1 r (nI t)) (upd a2 r (nI k)) a3 a4 a5 a6 a7 a8 := by
    refine ⟨hn, fun r' hr' => ?_, h3, h4, h8⟩
    by_cases e : r' = r
    · rw [e, pk_us, pk_us]
      exact ⟨t, k, ht, k1, rfl, rfl, k2⟩
    · rw [pk_un e, pk_un e]
      exact h1 r' hr'
  refine pk_loop (fun f i (s : Int32) => wX_define_59 post (nI t) (nI n) (nI m) (-1) 0 fo (upd a1 r (nI t)) (upd a2 r (nI k)) a3 a4 a5 a6 a7 a8 a9 a10 a11 a12 a13 a14 f s (nI i)) (fun _ _ => True) 8 0 0 (by omega) trivial (fun f s _ => pk_le 8 8 (fun _ => H s _ _ hJ) (fun z => absurd z (by omega))) ?_
  intro f i s hi _ hw
  exact pk_le 8 i (fun z => absurd z (by omega)) (fun _ => nm_e (nm_r (nI_1 i) (hw _ trivial)))
theorem rn_require {r x y z : Nat} (hI : rn_inv n m a1 a2 a3 a4 a5 a6 a7 a8) (hr : r < 6) (hx : x < n) (hy : y < n) (hz : z < n) (H : ∀ q m' b3 b4 b5 b6 b7, rn_inv n m' a1 a2 b3 b4 b5 b6 b7 a8 → post q (nI n, nI m', -1, 0, fo, a1, a2, b3, b4, b5, b6, b7, a8, a9, a10, a11, a12, a13, a14)) : wpX_require post (nI n, nI m, -1, 0, fo, a1, a2, a3, a4, a5, a6, a7, a8, a9, a10, a11, a12, a13, a14) (nI r) (nI x) (nI y) (nI z) := by
  obtain ⟨⟨n2, n8, m20⟩, h1, h3, h4, h8⟩ := hI
  have hI : rn_inv n m a1 a2 a3 a4 a5 a6 a7 a8 := ⟨⟨n2, n8, m20⟩, h1, h3, h4, h8⟩
  unfold wpX_require
  dsimp only
  rw [nI_clamp (show m < 2 ^ 31 by omega), nI_clamp (show r < 2 ^ 31 by omega), h3 r hr, nI_1, nI_1]
  refine br_f (nI_pos (by omega)) (pk_le r 5 (fun _ => rn_isVar n8 hx (br_f (by decide) (rn_isVar n8 hy (br_f (by decide) (rn_isVar n8 hz (br_f (by decide) (pk_eq m 20 (fun _ => H _ m a3 a4 a5 a6 a7 hI) (fun ne => ?_)))))))) (fun z => absurd z (by omega)))
  have im : vp_in (nI m) 20 := pk_in m 20 (by omega)
  have ir : vp_in (nI r) 6 := pk_in r 6 hr
  refine ⟨im, nm_e ⟨im, nm_e ⟨im, nm_e ⟨im, nm_e ⟨ir, ir, nm_e (nm_e (H _ (m + 1) _ _ _ _ _ ?_))⟩⟩⟩⟩⟩
  refine ⟨⟨n2, n8, by omega⟩, h1, fun r' hr' => ?_, fun c hc => ?_, h8⟩
  · have us : rn_use (upd a4 m (nI r)) (nI r') (m + 1) = rn_use a4 (nI r') m + (if nI r = nI r' then 1 else 0) := by
      show rn_use (upd a4 m (nI r)) (nI r') m + _ = _
      rw [rn_use_c (a := a4) (b := upd a4 m (nI r)) (fun c hc => pk_un (by omega)), pk_us]
    rw [us]
    by_cases e : r' = r
    · rw [e, pk_us, if_pos rfl]
    · rw [pk_un e, if_neg (fun q => e ((nI_eq (by omega) (by omega)).mp q).symm), Nat.add_zero]
      exact h3 r' hr'
  · by_cases e : c = m
    · rw [e, pk_us, pk_us, pk_us, pk_us]
      exact ⟨⟨r, hr, rfl⟩, ⟨x, hx, rfl⟩, ⟨y, hy, rfl⟩, ⟨z, hz, rfl⟩⟩
    · rw [pk_un e, pk_un e, pk_un e, pk_un e]
      exact h4 c (by omega)
theorem rn_assume {v q : Nat} (hI : rn_inv n m a1 a2 a3 a4 a5 a6 a7 a8) (hv : v < 8) (hq : q < 4) (H : ∀ r b8, rn_inv n m a1 a2 a3 a4 a5 a6 a7 b8 → post r (nI n, nI m, -1, 0, fo, a1, a2, a3, a4, a5, a6, a7, b8, a9, a10, a11, a12, a13, a14)) : wpX_assume post (nI n, nI m, -1, 0, fo, a1, a2, a3, a4, a5, a6, a7, a8, a9, a10, a11, a12, a13, a14) (nI v) (nI q) := by
  obtain ⟨⟨n2, n8, m20⟩, h1, h3, h4, h8⟩ := hI
  have hI : rn_inv n m a1 a2 a3 a4 a5 a6 a7 a8 := ⟨⟨n2, n8, m20⟩, h1, h3, h4, h8⟩
  unfold wpX_assume
  dsimp only
  rw [nI_clamp (show v < 2 ^ 31 by omega)]
  refine rn_isVarQ n8 (by omega) (fun _ => br_t rfl (H _ a8 hI)) (fun hvn => br_f (by decide) (br_f (nI_pos (by omega)) (pk_le q 2 (fun q2 => ⟨pk_in v 8 hv, nm_e ⟨pk_in v 8 hv, nm_e (H _ _ ⟨⟨n2, n8, m20⟩, h1, h3, h4, fun u hu => ?_⟩)⟩⟩) (fun _ => H _ a8 hI))))
  by_cases e : u = v
  · rw [e, pk_us]
    exact ⟨q, q2, rfl⟩
  · rw [pk_un e]
    exact h8 u hu
/-- the places from i on moved down by one, up to j -/
def rn_shf (i j : Nat) (a s : Nat → Int32) : Prop := ∀ c, s c = if i ≤ c ∧ c + 1 < j then a (c + 1) else a c
theorem rn_shf_s {i j : Nat} {a s : Nat → Int32} (hij : i < j) (h : rn_shf i j a s) : rn_shf i (j + 1) a (upd s (j - 1) (s j)) := by
  intro c
  by_cases e : c = j - 1
  · rw [e, pk_us, h j, if_neg (by omega), if_pos (by omega), show j - 1 + 1 = j by omega]
  · rw [pk_un e, h c]
    by_cases g : i ≤ c ∧ c + 1 < j
    · rw [if_pos g, if_pos (by omega)]
    · rw [if_neg g, if_neg (by omega)]
theorem rn_retract {i : Nat} (hI : rn_inv n m a1 a2 a3 a4 a5 a6 a7 a8) (hi : i < 32) (H : ∀ q m' b3 b4 b5 b6 b7, rn_inv n m' a1 a2 b3 b4 b5 b6 b7 a8 → post q (nI n, nI m', -1, 0, fo, a1, a2, b3, b4, b5, b6, b7, a8, a9, a10, a11, a12, a13, a14)) : wpX_retract post (nI n, nI m, -1, 0, fo, a1, a2, a3, a4, a5, a6, a7, a8, a9, a10, a11, a12, a13, a14) (nI i) := by
  obtain ⟨⟨n2, n8, m20⟩, h1, h3, h4, h8⟩ := hI
  have hI : rn_inv n m a1 a2 a3 a4 a5 a6 a7 a8 := ⟨⟨n2, n8, m20⟩, h1, h3, h4, h8⟩
  unfold wpX_retract
  dsimp only
  rw [nI_clamp (show i < 2 ^ 31 by omega)]
  refine br_f (nI_pos (by omega)) (pk_lt i m (fun him => ⟨pk_in i 20 (by omega), ?_⟩) (fun _ => H _ m a3 a4 a5 a6 a7 hI))
  obtain ⟨⟨r, hr, er⟩, _⟩ := h4 i him
  rw [er]
  have up : 0 < rn_use a4 (nI r) m := rn_use_pos him er
  refine nm_e (nm_r (nI_1 i) ?_)
  refine pk_loop (fun f j (s : (Nat → Int32) × (Nat → Int32) × (Nat → Int32) × (Nat → Int32)) => wX_retract_25 post (nI r) (nI n) (nI m) (-1) 0 fo f (nI j) a1 a2 a3 (s.1) (s.2.1) (s.2.2.1) (s.2.2.2) a8 a9 a10 a11 a12 a13 a14) (fun j s => i < j ∧ rn_shf i j a4 s.1 ∧ rn_shf i j a5 s.2.1 ∧ rn_shf i j a6 s.2.2.1 ∧ rn_shf i j a7 s.2.2.2) m (i + 1) (a4, a5, a6, a7) (by omega) ⟨by omega, fun c => ?_, fun c => ?_, fun c => ?_, fun c => ?_⟩ ?_ ?_
  · rw [if_neg (by omega)]
  · rw [if_neg (by omega)]
  · rw [if_neg (by omega)]
  · rw [if_neg (by omega)]
  · intro f s h
    obtain ⟨s4, s5, s6, s7⟩ := s
    obtain ⟨_, q4, q5, q6, q7⟩ := h
    replace q4 : rn_shf i m a4 s4 := q4
    replace q5 : rn_shf i m a5 s5 := q5
    replace q6 : rn_shf i m a6 s6 := q6
    replace q7 : rn_shf i m a7 s7 := q7
    have e1 : nI m - 1 = nI (m - 1) := pk_sub (b := 1) (by omega)
    refine pk_le m m (fun _ => nm_r e1 ⟨pk_in r 6 hr, pk_in r 6 hr, ?_⟩) (fun z => absurd z (by omega))
    rw [nI_clamp (show r < 2 ^ 31 by omega), h3 r hr, show nI (rn_use a4 (nI r) m) - 1 = nI (rn_use a4 (nI r) m - 1) from pk_sub (b := 1) up]
    refine nm_e (H _ (m - 1) _ s4 s5 s6 s7 ⟨⟨n2, n8, by omega⟩, h1, fun r' hr' => ?_, fun c hc => ?_, h8⟩)
    · have us := rn_use_s (a := a4) (s := s4) (x := nI r') (i := i) (m - 1 - i) (fun c hc => by rw [q4 c, if_neg (by omega)]) (fun c c1 c2 => by rw [q4 c, if_pos (by omega)])
      rw [show i + (m - 1 - i) = m - 1 by omega, show m - 1 + 1 = m by omega, er] at us
      by_cases e : r' = r
      · rw [e] at us ⊢
        rw [pk_us, ← us, if_pos rfl]
        rfl
      · rw [pk_un e, h3 r' hr', ← us, if_neg (fun q => e ((nI_eq (by omega) (by omega)).mp q).symm), Nat.add_zero]
    · rw [q4 c, q5 c, q6 c, q7 c]
      by_cases g : i ≤ c ∧ c + 1 < m
      · rw [if_pos g, if_pos g, if_pos g, if_pos g]
        exact h4 (c + 1) (by omega)
      · rw [if_neg g, if_neg g, if_neg g, if_neg g]
        exact h4 c (by omega)
  · intro f j s hj h hw
    obtain ⟨s4, s5, s6, s7⟩ := s
    obtain ⟨hij, q4, q5, q6, q7⟩ := h
    replace q4 : rn_shf i j a4 s4 := q4
    replace q5 : rn_shf i j a5 s5 := q5
    replace q6 : rn_shf i j a6 s6 := q6
    replace q7 : rn_shf i j a7 s7 := q7
    have e1 : nI j - 1 = nI (j - 1) := pk_sub (b := 1) (by omega)
    have i0 : vp_in (nI j) 20 := pk_in j 20 (by omega)
    have i1 : vp_in (nI j - 1) 20 := pk_in (j - 1) 20 (by omega) e1
    have W := hw (upd s4 (j - 1) (s4 j), upd s5 (j - 1) (s5 j), upd s6 (j - 1) (s6 j), upd s7 (j - 1) (s7 j)) ⟨by omega, rn_shf_s hij q4, rn_shf_s hij q5, rn_shf_s hij q6, rn_shf_s hij q7⟩
    have c0 : (nI j).toNatClampNeg = j := nI_clamp (by omega)
    have c1 : (nI j - 1).toNatClampNeg = j - 1 := by rw [e1, nI_clamp (by omega)]
    exact pk_le m j (fun z => absurd z (by omega)) (fun _ => ⟨i0, i1, nm_r (e' := upd s4 (j - 1) (s4 j)) (by rw [c0, c1]) ⟨i0, i1, nm_r (e' := upd s5 (j - 1) (s5 j)) (by rw [c0, c1]) ⟨i0, i1, nm_r (e' := upd s6 (j - 1) (s6 j)) (by rw [c0, c1]) ⟨i0, i1, nm_r (e' := upd s7 (j - 1) (s7 j)) (by rw [c0, c1]) (nm_r (nI_1 j) W)⟩⟩⟩⟩)
end
end
section
/-! part 19: cell, red, turn, the constructor -/
theorem rn_cell {post : Int32 → Prop} {L : Nat} {xs : Nat → Int32} {j : Nat} (hL : L < 2 ^ 31) (hj : j < 2 ^ 31) (H : ∀ x, post x) : wpL_cell post L xs () (nI j) :=
  pk_le L j (fun _ => H 0) (fun z => ⟨pk_in j L z rfl hL, H _⟩)
theorem rn_red {post : Int32 → Prop} {x : Int32} {d : Nat} (h0 : 0 < d) (hd : d < 2 ^ 31) (H : ∀ q, q < d → post (nI q)) : wpL_red post () x (nI d) := by
  obtain ⟨j, hj, e⟩ := pk_andE x (m := 2147483647) 31 (by decide)
  unfold wpL_red
  rw [e, pk_rem hj h0 hd]
  exact pk_le 1 d (fun _ => ⟨nI_ne0 h0 hd, H _ (Nat.mod_lt _ h0)⟩) (fun z => absurd z (by omega))
theorem rn_255 : ∀ x, x < 8 → (255 : Int32) - (1 : Int32) <<< (nI x &&& 31) = nI (255 - 2 ^ x) := by decide +kernel
section
variable {n m : Nat} {fo : Int32} {a1 a2 a3 a4 a5 a6 a7 a8 a9 a10 a11 a12 a13 a14 : Nat → Int32}
theorem rn_turn {post : St2 → Prop} {c d : Int32} (hI : rn_inv n m a1 a2 a3 a4 a5 a6 a7 a8) (H : ∀ m' b1 b2 b3 b4 b5 b6 b7 b8, rn_inv n m' b1 b2 b3 b4 b5 b6 b7 b8 → post (nI n, nI m', -1, 0, fo, b1, b2, b3, b4, b5, b6, b7, b8, a9, a10, a11, a12, a13, a14)) : wpL_turn post (nI n, nI m, -1, 0, fo, a1, a2, a3, a4, a5, a6, a7, a8, a9, a10, a11, a12, a13, a14) (nI n) c d := by
  have hn := hI.1
  obtain ⟨op, op8, eop⟩ := pk_andE c (m := 7) 3 (by decide)
  obtain ⟨r, r8, er⟩ := pk_andE (c >>> ((3 : Int32) &&& 31)) (m := 7) 3 (by decide)
  obtain ⟨x, x8, ex⟩ := pk_andE d (m := 7) 3 (by decide)
  obtain ⟨y, y8, ey⟩ := pk_andE (d >>> ((3 : Int32) &&& 31)) (m := 7) 3 (by decide)
  obtain ⟨z, z8, ez⟩ := pk_andE (d >>> ((6 : Int32) &&& 31)) (m := 7) 3 (by decide)
  obtain ⟨t, t256, et⟩ := pk_andE d (m := 255) 8 (by decide)
  obtain ⟨i, i32, ei⟩ := pk_andE d (m := 31) 5 (by decide)
  obtain ⟨q, q4, eq⟩ := pk_andE (nI y) (m := 3) 2 (by decide)
  unfold wpL_turn
  refine nm_r eop (nm_e (nm_r er (nm_r ex (nm_r ey (nm_r ez ?_)))))
  rw [et, ei, eq, ex, rn_255 x x8]
  refine pk_eq op 0 (fun _ => ?_) (fun _ => pk_eq op 1 (fun _ => ?_) (fun _ => pk_eq op 2 (fun _ => ?_) (fun _ => pk_eq op 3 (fun _ => ?_) (fun _ => ?_))))
  · exact rn_define hI r8 t256 (fun _ b1 b2 h => H m b1 b2 a3 a4 a5 a6 a7 a8 h)
  · exact rn_define hI r8 (Nat.lt_of_le_of_lt (Nat.sub_le 255 _) (by omega)) (fun _ b1 b2 h => H m b1 b2 a3 a4 a5 a6 a7 a8 h)
  · exact rn_retract hI i32 (fun _ m' b3 b4 b5 b6 b7 h => H m' a1 a2 b3 b4 b5 b6 b7 a8 h)
  · exact rn_assume hI x8 q4 (fun _ b8 h => H m a1 a2 a3 a4 a5 a6 a7 b8 h)
  · exact rn_red (by omega) (by omega) (fun u hu => rn_red (by omega) (by omega) (fun v hv => rn_red (by omega) (by omega) (fun w hw => rn_red (d := 6) (by omega) (by omega) (fun k hk => rn_require hI hk hu hv hw (fun _ m' b3 b4 b5 b6 b7 h => H m' a1 a2 b3 b4 b5 b6 b7 a8 h)))))
end
theorem rn_mk0 : rn_mk 255 127 := by
  have h : ∀ s, s < 8 → Nat.testBit 255 s = true := by decide
  exact ⟨fun _ s hs t ht _ _ => h _ (rn_lt8a hs), fun _ s hs t ht _ _ => h _ (rn_lt8o hs ht), fun _ s hs t ht u hu _ _ _ => h _ (rn_lt8o (rn_lt8o (rn_lt8a hs) (rn_lt8a hs)) (rn_lt8a ht)), fun _ s hs t ht u hu _ _ _ => h _ (rn_lt8x (rn_lt8x hs ht) hu)⟩
theorem rn_i178 {post : St2 → Prop} {mc ms kc ks n : Nat} {s1 s2 : Nat → Int32} (n2 : 2 ≤ n) (n8 : n ≤ 8) (h : ∀ r, r < 6 → s1 r = 255 ∧ s2 r = 127)
    (H : ∀ (fo : Int32) (a1 a2 a3 a4 a5 a6 a7 a8 a9 a10 a11 a12 a13 a14 : Nat → Int32), rn_inv n 0 a1 a2 a3 a4 a5 a6 a7 a8 → post (nI n, nI 0, -1, 0, fo, a1, a2, a3, a4, a5, a6, a7, a8, a9, a10, a11, a12, a13, a14)) :
    ∃ fu, wX_init_178 post mc ms kc ks (nI n) 0 0 0 0 fu 0 s1 s2 (fun _ => 0) (fun _ => 0) (fun _ => 0) (fun _ => 0) (fun _ => 0) (fun _ => 0) (fun _ => 0) (fun _ => 0) (fun _ => 0) (fun _ => 0) (fun _ => 0) (fun _ => 0) := by
  refine pk_loop (fun f i (s : Nat → Int32) => wX_init_178 post mc ms kc ks (nI n) 0 0 0 0 f (nI i) s1 s2 (fun _ => 0) (fun _ => 0) (fun _ => 0) (fun _ => 0) (fun _ => 0) s (fun _ => 0) (fun _ => 0) (fun _ => 0) (fun _ => 0) (fun _ => 0) (fun _ => 0)) (fun i s => ∀ v, v < i → s v = 2) 8 0 (fun _ => 0) (by omega) (fun v hv => absurd hv (by omega)) ?_ ?_
  · intro f s hs
    refine pk_le 8 8 (fun _ => H _ _ _ _ _ _ _ _ _ _ _ _ _ _ _ ⟨⟨n2, n8, by omega⟩, fun r hr => ⟨255, 127, by omega, by omega, (h r hr).1, (h r hr).2, rn_mk0⟩, fun r hr => rfl, fun c hc => absurd hc (by omega), fun v hv => ⟨2, by omega, hs v hv⟩⟩) (fun z => absurd z (by omega))
  · intro f i s hi hs hw
    refine pk_le 8 i (fun z => absurd z (by omega)) (fun _ => ⟨pk_in i 8 hi, ?_⟩)
    rw [nI_clamp (show i < 2 ^ 31 by omega)]
    exact nm_e (nm_r (nI_1 i) (hw _ (rn_fill (f := fun _ => 2) hs rfl)))
theorem rn_init {post : St2 → Prop} {n : Nat} (n2 : 2 ≤ n) (n8 : n ≤ 8)
    (H : ∀ (fo : Int32) (a1 a2 a3 a4 a5 a6 a7 a8 a9 a10 a11 a12 a13 a14 : Nat → Int32), rn_inv n 0 a1 a2 a3 a4 a5 a6 a7 a8 → post (nI n, nI 0, -1, 0, fo, a1, a2, a3, a4, a5, a6, a7, a8, a9, a10, a11, a12, a13, a14)) : wpX_init post 14 226 (0, 0, 0, 0, 0) (nI n) := by
  unfold wpX_init
  refine ⟨by omega, by omega, by omega, by omega, by omega, by omega, by omega, by omega, by omega, by omega, by omega, by omega, by omega, by omega, by omega, by omega, by omega, by omega, by omega, by omega, by omega, by omega, by omega, by omega, by omega, by omega, by omega, by omega, ?_⟩
  refine pk_le 2 n (fun _ => pk_le n 8 (fun _ => ?_) (fun z => absurd z (by omega))) (fun z => absurd z (by omega))
  refine pk_loop (fun f i (s : (Nat → Int32) × (Nat → Int32)) => wX_init_147 post 14 226 14 226 (nI n) 0 0 0 0 f (nI i) s.1 s.2 (fun _ => 0) (fun _ => 0) (fun _ => 0) (fun _ => 0) (fun _ => 0) (fun _ => 0) (fun _ => 0) (fun _ => 0) (fun _ => 0) (fun _ => 0) (fun _ => 0) (fun _ => 0)) (fun i s => ∀ r, r < i → s.1 r = 255 ∧ s.2 r = 127) 6 0 ((fun _ => 0), (fun _ => 0)) (by omega) (fun v hv => absurd hv (by omega)) ?_ ?_
  · intro f s hs
    exact pk_le 6 6 (fun _ => rn_i178 n2 n8 hs H) (fun z => absurd z (by omega))
  · intro f i s hi hs hw
    refine pk_le 6 i (fun z => absurd z (by omega)) (fun _ => ⟨pk_in i 6 hi, ?_⟩)
    rw [nI_clamp (show i < 2 ^ 31 by omega)]
    refine nm_e ⟨pk_in i 6 hi, nm_e (nm_r (nI_1 i) (hw (_, _) (fun r hr => ?_)))⟩
    exact ⟨rn_fill (f := fun _ => 255) (fun j hj => (hs j hj).1) rfl r hr, rn_fill (f := fun _ => 127) (fun j hj => (hs j hj).2) rfl r hr⟩
end
section
/-! part 20: the law -/
theorem rn_2i (i : Nat) : nI (1 + 2 * i) + 2 = nI (1 + 2 * (i + 1)) := by
  show nI (1 + 2 * i) + nI 2 = _
  rw [nI_add, show 1 + 2 * i + 2 = 1 + 2 * (i + 1) by omega]
theorem i_vc (xs : Nat → Int32) (L : Nat) (hL : L ≤ 260) : wpL_law (fun r => r = 1) L xs := by
  unfold wpL_law
  refine rn_cell (j := 0) (by omega) (by omega) (fun x0 => rn_red (d := 7) (by omega) (by omega) (fun q hq => nm_r (nI_add 2 q) ⟨14, 226, by omega, by omega, ?_⟩))
  obtain ⟨n, en⟩ : ∃ n, n = 2 + q := ⟨_, rfl⟩
  rw [← en]
  refine rn_init (by omega) (by omega) (fun fo a1 a2 a3 a4 a5 a6 a7 a8 a9 a10 a11 a12 a13 a14 hI => ?_)
  have n8 : n ≤ 8 := by omega
  clear en hq x0
  refine pk_loop (fun f i (s : Nat × (Nat → Int32) × (Nat → Int32) × (Nat → Int32) × (Nat → Int32) × (Nat → Int32) × (Nat → Int32) × (Nat → Int32) × (Nat → Int32) × Int32 × (Nat → Int32) × (Nat → Int32) × (Nat → Int32) × (Nat → Int32) × (Nat → Int32) × (Nat → Int32)) => wL_law_27 (fun r => r = 1) L xs (nI n) (1 + 14) (19 + 226) f (nI (1 + 2 * i)) (nI n) (nI s.1) (-1) 0 s.2.2.2.2.2.2.2.2.2.1 s.2.1 s.2.2.1 s.2.2.2.1 s.2.2.2.2.1 s.2.2.2.2.2.1 s.2.2.2.2.2.2.1 s.2.2.2.2.2.2.2.1 s.2.2.2.2.2.2.2.2.1 s.2.2.2.2.2.2.2.2.2.2.1 s.2.2.2.2.2.2.2.2.2.2.2.1 s.2.2.2.2.2.2.2.2.2.2.2.2.1 s.2.2.2.2.2.2.2.2.2.2.2.2.2.1 s.2.2.2.2.2.2.2.2.2.2.2.2.2.2.1 s.2.2.2.2.2.2.2.2.2.2.2.2.2.2.2) (fun _ s => rn_inv n s.1 s.2.1 s.2.2.1 s.2.2.2.1 s.2.2.2.2.1 s.2.2.2.2.2.1 s.2.2.2.2.2.2.1 s.2.2.2.2.2.2.2.1 s.2.2.2.2.2.2.2.2.1) (L / 2) 0 (0, a1, a2, a3, a4, a5, a6, a7, a8, fo, a9, a10, a11, a12, a13, a14) (by omega) hI ?_ ?_
  · intro f s h
    obtain ⟨m, c1, c2, c3, c4, c5, c6, c7, c8, co, c9, c10, c11, c12, c13, c14⟩ := s
    replace h : rn_inv n m c1 c2 c3 c4 c5 c6 c7 c8 := h
    refine pk_le L (1 + 2 * (L / 2)) (fun _ => ?_) (fun z => absurd z (by omega))
    exact rn_holds (rn_inv_core h) (rn_inv_as h) (fun eo e9 e10 e11 e12 e13 e14 => rfl)
  · intro f i s hi h hw
    obtain ⟨m, c1, c2, c3, c4, c5, c6, c7, c8, co, c9, c10, c11, c12, c13, c14⟩ := s
    replace h : rn_inv n m c1 c2 c3 c4 c5 c6 c7 c8 := h
    have go : ∀ (m : Nat) (c1 c2 c3 c4 c5 c6 c7 c8 : Nat → Int32) (co : Int32) (c9 c10 c11 c12 c13 c14 : Nat → Int32), rn_inv n m c1 c2 c3 c4 c5 c6 c7 c8 → wL_law_27 (fun r => r = 1) L xs (nI n) (1 + 14) (19 + 226) f (nI (1 + 2 * (i + 1))) (nI n) (nI m) (-1) 0 co c1 c2 c3 c4 c5 c6 c7 c8 c9 c10 c11 c12 c13 c14 := fun m c1 c2 c3 c4 c5 c6 c7 c8 co c9 c10 c11 c12 c13 c14 h => hw (m, c1, c2, c3, c4, c5, c6, c7, c8, co, c9, c10, c11, c12, c13, c14) h
    show wL_law_27 (fun r => r = 1) L xs (nI n) (1 + 14) (19 + 226) (f + 1) (nI (1 + 2 * i)) (nI n) (nI m) (-1) 0 co c1 c2 c3 c4 c5 c6 c7 c8 c9 c10 c11 c12 c13 c14
    refine pk_le L (1 + 2 * i) (fun z => absurd z (by omega)) (fun _ => rn_cell (by omega) (by omega) (fun x => ?_))
    rw [nI_1]
    refine rn_cell (by omega) (by omega) (fun y => rn_turn h (fun m' d1 d2 d3 d4 d5 d6 d7 d8 h' => br_c (fun _ => ?_) (fun _ => nm_r (rn_2i i) (go m' d1 d2 d3 d4 d5 d6 d7 d8 co c9 c10 c11 c12 c13 c14 h'))))
    exact rn_holds (rn_inv_core h') (rn_inv_as h') (fun eo e9 e10 e11 e12 e13 e14 => br_f (by decide) (nm_r (rn_2i i) (go m' d1 d2 d3 d4 d5 d6 d7 d8 eo e9 e10 e11 e12 e13 e14 h')))
end
