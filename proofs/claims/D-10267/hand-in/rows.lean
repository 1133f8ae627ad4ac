section
/-! sums below n, sizes of sets below 8 -/
def zk_S : Nat → (Nat → Nat) → Nat
  | 0, _ => 0
  | n + 1, f => zk_S n f + f n
theorem zk_S_le {n : Nat} {f g : Nat → Nat} (h : ∀ i, i < n → f i ≤ g i) : zk_S n f ≤ zk_S n g := by
  induction n with
  | zero => exact Nat.le_refl _
  | succ n ih => exact Nat.add_le_add (ih (fun i hi => h i (by omega))) (h n (by omega))
theorem zk_S_eq {n : Nat} {f g : Nat → Nat} (h : ∀ i, i < n → f i = g i) : zk_S n f = zk_S n g :=
  Nat.le_antisymm (zk_S_le (fun i hi => Nat.le_of_eq (h i hi))) (zk_S_le (fun i hi => Nat.le_of_eq (h i hi).symm))
theorem zk_S_add (n : Nat) (f g : Nat → Nat) : zk_S n (fun i => f i + g i) = zk_S n f + zk_S n g := by
  induction n with
  | zero => rfl
  | succ n ih =>
    show zk_S n (fun i => f i + g i) + (f n + g n) = (zk_S n f + f n) + (zk_S n g + g n)
    rw [ih]
    omega
theorem zk_S_0 (n : Nat) : zk_S n (fun _ => 0) = 0 := by
  induction n with
  | zero => rfl
  | succ n ih =>
    show zk_S n (fun _ => 0) + 0 = 0
    rw [ih]
theorem zk_S_swap (n m : Nat) (f : Nat → Nat → Nat) : zk_S n (fun i => zk_S m (fun j => f i j)) = zk_S m (fun j => zk_S n (fun i => f i j)) := by
  induction n with
  | zero => exact (zk_S_0 m).symm
  | succ n ih =>
    show zk_S n (fun i => zk_S m (fun j => f i j)) + zk_S m (fun j => f n j) = zk_S m (fun j => zk_S n (fun i => f i j) + f n j)
    rw [ih, zk_S_add]
theorem zk_S_ge {n i : Nat} (f : Nat → Nat) (h : i < n) : f i ≤ zk_S n f := by
  induction n with
  | zero => omega
  | succ n ih =>
    show f i ≤ zk_S n f + f n
    by_cases e : i = n
    · subst e
      omega
    · have := ih (by omega)
      omega
theorem zk_S_none {n : Nat} {f : Nat → Nat} (h : ∀ i, i < n → f i = 0) : zk_S n f = 0 := by
  rw [zk_S_eq (g := fun _ => 0) h]
  exact zk_S_0 n
theorem zk_S_most {n : Nat} {p : Nat → Bool} (h : ∀ i j, i < n → j < n → p i = true → p j = true → i = j) : zk_S n (fun i => (p i).toNat) ≤ 1 := by
  induction n with
  | zero => exact Nat.zero_le _
  | succ n ih =>
    show zk_S n (fun i => (p i).toNat) + (p n).toNat ≤ 1
    cases e : p n with
    | false =>
      have := ih (fun i j hi hj => h i j (by omega) (by omega))
      simpa using this
    | true =>
      have z : zk_S n (fun i => (p i).toNat) = 0 := by
        refine zk_S_none (fun i hi => ?_)
        cases e2 : p i with
        | false => rfl
        | true => exact absurd (h i n (by omega) (by omega) e2 e) (by omega)
      rw [z]
      decide
def zk_d (A : Nat → Bool) : Nat := zk_S 8 (fun i => (A i).toNat)
theorem zk_d_le {A B : Nat → Bool} (h : ∀ i, i < 8 → A i = true → B i = true) : zk_d A ≤ zk_d B := by
  refine zk_S_le (fun i hi => ?_)
  have := h i hi
  cases a : A i
  · exact Nat.zero_le _
  · rw [this a]
    exact Nat.le_refl _
theorem zk_d_eq {A B : Nat → Bool} (h : ∀ i, i < 8 → A i = B i) : zk_d A = zk_d B := by
  refine zk_S_eq (fun i hi => ?_)
  rw [h i hi]
theorem zk_d_sub {A B C : Nat → Bool} (h : ∀ i, i < 8 → A i = true → B i = true ∨ C i = true) : zk_d A ≤ zk_d B + zk_d C := by
  unfold zk_d
  rw [← zk_S_add]
  refine zk_S_le (fun i hi => ?_)
  have := h i hi
  cases a : A i
  · exact Nat.zero_le _
  · rcases this a with b | b
    · rw [b]
      exact Nat.le_add_right _ _
    · rw [b]
      exact Nat.le_add_left _ _
theorem zk_d_dis {A B C : Nat → Bool} (hB : ∀ i, i < 8 → B i = true → A i = true) (hC : ∀ i, i < 8 → C i = true → A i = true) (h : ∀ i, i < 8 → B i = true → C i = true → False) : zk_d B + zk_d C ≤ zk_d A := by
  unfold zk_d
  rw [← zk_S_add]
  refine zk_S_le (fun i hi => ?_)
  cases b : B i with
  | false =>
    cases c : C i with
    | false => exact Nat.zero_le _
    | true =>
      rw [hC i hi c]
      decide
  | true =>
    cases c : C i with
    | false =>
      rw [hB i hi b]
      decide
    | true => exact absurd c (fun c => h i hi b c)
theorem zk_d_8 (A : Nat → Bool) : zk_d A ≤ 8 := zk_d_le (B := fun _ => true) (fun _ _ _ => rfl)
theorem zk_d_none {A : Nat → Bool} (h : ∀ i, i < 8 → A i = false) : zk_d A = 0 := by
  refine zk_S_none (fun i hi => ?_)
  rw [h i hi]
  rfl
theorem zk_d_pos {A : Nat → Bool} {v : Nat} (hv : v < 8) (h : A v = true) : 1 ≤ zk_d A := by
  have := zk_S_ge (fun i => (A i).toNat) hv
  rw [h] at this
  exact this
theorem zk_d_zero {A : Nat → Bool} (h : zk_d A = 0) {v : Nat} (hv : v < 8) : A v = false := by
  cases e : A v with
  | false => rfl
  | true =>
    have := zk_d_pos hv e
    omega
/-- one vertex -/
def zk_1 (v : Nat) : Nat → Bool := fun i => decide (i = v)
theorem zk_1_t {v i : Nat} : zk_1 v i = true ↔ i = v := by unfold zk_1; exact decide_eq_true_iff
theorem zk_1_f {v i : Nat} : zk_1 v i = false ↔ i ≠ v := by unfold zk_1; exact decide_eq_false_iff_not
theorem zk_d_1 {v : Nat} (hv : v < 8) : zk_d (zk_1 v) = 1 := by
  refine Nat.le_antisymm (zk_S_most (p := zk_1 v) (fun i j _ _ hi hj => ?_)) (zk_d_pos hv (zk_1_t.mpr rfl))
  rw [zk_1_t.mp hi, zk_1_t.mp hj]
/-- A without B -/
def zk_m (A B : Nat → Bool) : Nat → Bool := fun i => A i && !B i
theorem zk_m_t {A B : Nat → Bool} {i : Nat} : zk_m A B i = true ↔ A i = true ∧ B i = false := by
  unfold zk_m
  cases A i <;> cases B i <;> decide
def zk_o (A B : Nat → Bool) : Nat → Bool := fun i => A i || B i
theorem zk_o_t {A B : Nat → Bool} {i : Nat} : zk_o A B i = true ↔ A i = true ∨ B i = true := by
  unfold zk_o
  cases A i <;> cases B i <;> decide
def zk_a (A B : Nat → Bool) : Nat → Bool := fun i => A i && B i
theorem zk_a_t {A B : Nat → Bool} {i : Nat} : zk_a A B i = true ↔ A i = true ∧ B i = true := by
  unfold zk_a
  cases A i <;> cases B i <;> decide
theorem zk_nt {b : Bool} (h : ¬ b = true) : b = false := by cases b <;> simp_all
theorem zk_nf {b : Bool} (h : ¬ b = false) : b = true := by cases b <;> simp_all
theorem zk_tf {b : Bool} (h : b = true) (g : b = false) : False := by rw [h] at g; exact Bool.noConfusion g
theorem zk_bc2 (b : Bool) : b = true ∨ b = false := by cases b <;> simp
/-- the size of a set and of its two parts -/
theorem zk_d_part (A B : Nat → Bool) : zk_d A = zk_d (zk_a A B) + zk_d (zk_m A B) := by
  refine Nat.le_antisymm (zk_d_sub (fun i _ h => ?_)) (zk_d_dis (fun i _ h => (zk_a_t.mp h).1) (fun i _ h => (zk_m_t.mp h).1) (fun i _ h g => zk_tf (zk_a_t.mp h).2 (zk_m_t.mp g).2))
  rcases zk_bc2 (B i) with b | b
  · exact Or.inl (zk_a_t.mpr ⟨h, b⟩)
  · exact Or.inr (zk_m_t.mpr ⟨h, b⟩)
theorem zk_d_del {A : Nat → Bool} {v : Nat} (hv : v < 8) (h : A v = true) : zk_d A = zk_d (zk_m A (zk_1 v)) + 1 := by
  have e : zk_d (zk_a A (zk_1 v)) = zk_d (zk_1 v) := by
    refine zk_d_eq (fun i _ => ?_)
    rcases zk_bc2 (zk_1 v i) with b | b
    · have : i = v := zk_1_t.mp b
      subst this
      unfold zk_a
      rw [b, h]
      rfl
    · unfold zk_a
      rw [b]
      exact Bool.and_false _
  rw [zk_d_part A (zk_1 v), e, zk_d_1 hv, Nat.add_comm]
/-- two different members -/
theorem zk_d_two {A : Nat → Bool} {v w : Nat} (hv : v < 8) (hw : w < 8) (h : A v = true) (g : A w = true) (n : v ≠ w) : 2 ≤ zk_d A := by
  have := zk_d_dis (A := A) (B := zk_1 v) (C := zk_1 w) (fun i _ e => by rw [zk_1_t.mp e]; exact h) (fun i _ e => by rw [zk_1_t.mp e]; exact g) (fun i _ e f => n (by rw [← zk_1_t.mp e, ← zk_1_t.mp f]))
  rw [zk_d_1 hv, zk_d_1 hw] at this
  exact this
theorem zk_d_disj {A B : Nat → Bool} (h : ∀ i, i < 8 → A i = true → B i = true → False) : zk_d (zk_o A B) = zk_d A + zk_d B :=
  Nat.le_antisymm (zk_d_sub (fun i _ e => zk_o_t.mp e)) (zk_d_dis (fun i _ e => zk_o_t.mpr (Or.inl e)) (fun i _ e => zk_o_t.mpr (Or.inr e)) h)
/-- counting along a relation: each of A has one of B, none of B has two of A -/
theorem zk_rel {A B : Nat → Bool} (r : Nat → Nat → Bool) (h1 : ∀ a, a < 8 → A a = true → ∃ b, b < 8 ∧ r a b = true ∧ B b = true) (h2 : ∀ b a a', b < 8 → a < 8 → a' < 8 → r a b = true → r a' b = true → a = a') : zk_d A ≤ zk_d B := by
  have s1 : zk_d A ≤ zk_S 8 (fun a => zk_S 8 (fun b => (r a b && B b).toNat)) := by
    refine zk_S_le (fun a ha => ?_)
    rcases zk_bc2 (A a) with e | e
    · obtain ⟨b, hb, e1, e2⟩ := h1 a ha e
      have := zk_S_ge (fun b => (r a b && B b).toNat) hb
      rw [e1, e2] at this
      rw [e]
      exact this
    · rw [e]
      exact Nat.zero_le _
  rw [zk_S_swap] at s1
  refine Nat.le_trans s1 (zk_S_le (fun b hb => ?_))
  rcases zk_bc2 (B b) with e | e
  · rw [e]
    refine zk_S_most (p := fun a => r a b && true) (fun i j hi hj p q => h2 b i j hb hi hj ?_ ?_)
    · simpa using p
    · simpa using q
  · rw [e]
    refine Nat.le_of_eq (zk_S_none (fun i _ => ?_))
    rw [Bool.and_false]
    rfl
end
section
/-! covers of the edges within S, the least size zk_tau -/
def zk_cov (g : Nat → Nat → Bool) (S C : Nat → Bool) : Prop := ∀ u w, u < 8 → w < 8 → S u = true → S w = true → g u w = true → C u = true ∨ C w = true
theorem zk_ex (g : Nat → Nat → Bool) (S : Nat → Bool) : ∃ k, ∃ C, zk_cov g S C ∧ zk_d C = k := ⟨_, fun _ => true, fun _ _ _ _ _ _ _ => Or.inl rfl, rfl⟩
noncomputable def zk_tau (g : Nat → Nat → Bool) (S : Nat → Bool) : Nat := Classical.choose (pk_least (fun k => ∃ C, zk_cov g S C ∧ zk_d C = k) (zk_ex g S))
theorem zk_tau_ex (g : Nat → Nat → Bool) (S : Nat → Bool) : ∃ C, zk_cov g S C ∧ zk_d C = zk_tau g S := (Classical.choose_spec (pk_least (fun k => ∃ C, zk_cov g S C ∧ zk_d C = k) (zk_ex g S))).1
theorem zk_tau_le {g : Nat → Nat → Bool} {S C : Nat → Bool} (h : zk_cov g S C) : zk_tau g S ≤ zk_d C := by
  rcases Nat.lt_or_ge (zk_d C) (zk_tau g S) with z | z
  · exact absurd ⟨C, h, rfl⟩ ((Classical.choose_spec (pk_least (fun k => ∃ C, zk_cov g S C ∧ zk_d C = k) (zk_ex g S))).2 _ z)
  · exact z
theorem zk_tau_in (g : Nat → Nat → Bool) (S : Nat → Bool) : ∃ C, zk_cov g S C ∧ zk_d C = zk_tau g S ∧ ∀ i, i < 8 → C i = true → S i = true := by
  obtain ⟨C, h, e⟩ := zk_tau_ex g S
  have h' : zk_cov g S (zk_a C S) := fun u w hu hw su sw e => (h u w hu hw su sw e).elim (fun z => Or.inl (zk_a_t.mpr ⟨z, su⟩)) (fun z => Or.inr (zk_a_t.mpr ⟨z, sw⟩))
  refine ⟨zk_a C S, h', Nat.le_antisymm ?_ (zk_tau_le h'), fun i _ z => (zk_a_t.mp z).2⟩
  rw [← e]
  exact zk_d_le (fun i _ z => (zk_a_t.mp z).1)
theorem zk_tau_mono {g : Nat → Nat → Bool} {S T : Nat → Bool} (h : ∀ i, i < 8 → S i = true → T i = true) : zk_tau g S ≤ zk_tau g T := by
  obtain ⟨C, hc, e⟩ := zk_tau_ex g T
  rw [← e]
  exact zk_tau_le (fun u w hu hw su sw => hc u w hu hw (h u hu su) (h w hw sw))
theorem zk_tau_eq {g : Nat → Nat → Bool} {S T : Nat → Bool} (h : ∀ i, i < 8 → S i = T i) : zk_tau g S = zk_tau g T :=
  Nat.le_antisymm (zk_tau_mono (fun i hi z => by rw [← h i hi]; exact z)) (zk_tau_mono (fun i hi z => by rw [h i hi]; exact z))
theorem zk_tau_d (g : Nat → Nat → Bool) (S : Nat → Bool) : zk_tau g S ≤ zk_d S := zk_tau_le (fun u w hu hw su _ _ => Or.inl su)
theorem zk_tau_0 {g : Nat → Nat → Bool} {S : Nat → Bool} (h : ∀ u w, u < 8 → w < 8 → S u = true → S w = true → g u w = true → False) : zk_tau g S = 0 := by
  have t := zk_tau_le (g := g) (S := S) (C := fun _ => false) (fun u w hu hw su sw e => (h u w hu hw su sw e).elim)
  rw [zk_d_none (fun _ _ => rfl)] at t
  omega
theorem zk_tau_pos {g : Nat → Nat → Bool} {S : Nat → Bool} {u w : Nat} (hu : u < 8) (hw : w < 8) (su : S u = true) (sw : S w = true) (e : g u w = true) : 1 ≤ zk_tau g S := by
  obtain ⟨C, hc, z⟩ := zk_tau_ex g S
  rw [← z]
  rcases hc u w hu hw su sw e with q | q
  · exact zk_d_pos hu q
  · exact zk_d_pos hw q
theorem zk_d_some {A : Nat → Bool} (h : 1 ≤ zk_d A) : ∃ v, v < 8 ∧ A v = true := by
  refine Classical.byContradiction (fun z => ?_)
  have : zk_d A = 0 := zk_d_none (fun i hi => zk_nt (fun e => z ⟨i, hi, e⟩))
  omega
/-- symmetric -/
def zk_sym (g : Nat → Nat → Bool) : Prop := ∀ u w, u < 8 → w < 8 → g u w = true → g w u = true
/-- C and one more vertex x; C without a member -/
theorem zk_d_ins (C : Nat → Bool) {x : Nat} (hx : x < 8) : zk_d (zk_o C (zk_1 x)) ≤ zk_d C + 1 := by
  have := zk_d_sub (A := zk_o C (zk_1 x)) (B := C) (C := zk_1 x) (fun i _ e => zk_o_t.mp e)
  rw [zk_d_1 hx] at this
  exact this
theorem zk_lone {g : Nat → Nat → Bool} (hy : zk_sym g) {S : Nat → Bool} {v : Nat} (hv : v < 8) (hS : S v = true) (h1 : zk_d (zk_a (g v) S) = 1) : zk_tau g S = zk_tau g (zk_m S (g v)) + 1 := by
  obtain ⟨w, hw, ew⟩ := zk_d_some (A := zk_a (g v) S) (by omega)
  obtain ⟨gw, sw⟩ := zk_a_t.mp ew
  have uq : ∀ x, x < 8 → g v x = true → S x = true → x = w := fun x hx gx sx => by
    refine Classical.byContradiction (fun n => ?_)
    have := zk_d_two (A := zk_a (g v) S) hx hw (zk_a_t.mpr ⟨gx, sx⟩) ew n
    omega
  refine Nat.le_antisymm ?_ ?_
  · obtain ⟨C, hc, e⟩ := zk_tau_ex g (zk_m S (g v))
    rw [← e]
    refine Nat.le_trans (zk_tau_le (C := zk_o C (zk_1 w)) (fun a b ha hb sa sb gab => ?_)) (zk_d_ins C hw)
    rcases zk_bc2 (g v a) with p | p
    · exact Or.inl (zk_o_t.mpr (Or.inr (zk_1_t.mpr (uq a ha p sa))))
    · rcases zk_bc2 (g v b) with q | q
      · exact Or.inr (zk_o_t.mpr (Or.inr (zk_1_t.mpr (uq b hb q sb))))
      · rcases hc a b ha hb (zk_m_t.mpr ⟨sa, p⟩) (zk_m_t.mpr ⟨sb, q⟩) gab with z | z
        · exact Or.inl (zk_o_t.mpr (Or.inl z))
        · exact Or.inr (zk_o_t.mpr (Or.inl z))
  · obtain ⟨C, hc, e⟩ := zk_tau_ex g S
    rw [← e]
    rcases zk_bc2 (C w) with cw | cw
    · rw [zk_d_del hw cw]
      refine Nat.add_le_add_right (zk_tau_le (fun a b ha hb sa sb gab => ?_)) 1
      have na : a ≠ w := fun z => by rw [z] at sa; exact zk_tf gw (zk_m_t.mp sa).2
      have nb : b ≠ w := fun z => by rw [z] at sb; exact zk_tf gw (zk_m_t.mp sb).2
      rcases hc a b ha hb (zk_m_t.mp sa).1 (zk_m_t.mp sb).1 gab with z | z
      · exact Or.inl (zk_m_t.mpr ⟨z, zk_1_f.mpr na⟩)
      · exact Or.inr (zk_m_t.mpr ⟨z, zk_1_f.mpr nb⟩)
    · have cv : C v = true := (hc v w hv hw hS sw gw).elim id (fun z => (zk_tf z cw).elim)
      rw [zk_d_del hv cv]
      refine Nat.add_le_add_right (zk_tau_le (fun a b ha hb sa sb gab => ?_)) 1
      rcases hc a b ha hb (zk_m_t.mp sa).1 (zk_m_t.mp sb).1 gab with z | z
      · refine Or.inl (zk_m_t.mpr ⟨z, zk_1_f.mpr (fun q => ?_)⟩)
        rw [q] at gab
        exact zk_tf gab (zk_m_t.mp sb).2
      · refine Or.inr (zk_m_t.mpr ⟨z, zk_1_f.mpr (fun q => ?_)⟩)
        rw [q] at gab
        exact zk_tf (hy a v ha hv gab) (zk_m_t.mp sa).2
/-- take v, or all its neighbours within S -/
theorem zk_br1 (g : Nat → Nat → Bool) (S : Nat → Bool) {v : Nat} (hv : v < 8) : zk_tau g S ≤ zk_tau g (zk_m S (zk_1 v)) + 1 := by
  obtain ⟨C, hc, e⟩ := zk_tau_ex g (zk_m S (zk_1 v))
  rw [← e]
  refine Nat.le_trans (zk_tau_le (C := zk_o C (zk_1 v)) (fun a b ha hb sa sb gab => ?_)) (zk_d_ins C hv)
  rcases zk_bc2 (zk_1 v a) with p | p
  · exact Or.inl (zk_o_t.mpr (Or.inr p))
  · rcases zk_bc2 (zk_1 v b) with q | q
    · exact Or.inr (zk_o_t.mpr (Or.inr q))
    · rcases hc a b ha hb (zk_m_t.mpr ⟨sa, p⟩) (zk_m_t.mpr ⟨sb, q⟩) gab with z | z
      · exact Or.inl (zk_o_t.mpr (Or.inl z))
      · exact Or.inr (zk_o_t.mpr (Or.inl z))
theorem zk_br2 {g : Nat → Nat → Bool} (hy : zk_sym g) (S : Nat → Bool) {v : Nat} (hv : v < 8) : zk_tau g S ≤ zk_d (zk_a (g v) S) + zk_tau g (zk_m (zk_m S (zk_a (g v) S)) (zk_1 v)) := by
  obtain ⟨C, hc, e⟩ := zk_tau_ex g (zk_m (zk_m S (zk_a (g v) S)) (zk_1 v))
  rw [← e]
  refine Nat.le_trans (zk_tau_le (C := zk_o (zk_a (g v) S) C) (fun a b ha hb sa sb gab => ?_)) (zk_d_sub (fun i _ z => zk_o_t.mp z))
  rcases zk_bc2 (zk_a (g v) S a) with na | na
  · exact Or.inl (zk_o_t.mpr (Or.inl na))
  · rcases zk_bc2 (zk_a (g v) S b) with nb | nb
    · exact Or.inr (zk_o_t.mpr (Or.inl nb))
    · rcases zk_bc2 (zk_1 v a) with p | p
      · rw [zk_1_t.mp p] at gab
        exact (zk_tf (zk_a_t.mpr ⟨gab, sb⟩) nb).elim
      · rcases zk_bc2 (zk_1 v b) with q | q
        · rw [zk_1_t.mp q] at gab
          exact (zk_tf (zk_a_t.mpr ⟨hy a v ha hv gab, sa⟩) na).elim
        · rcases hc a b ha hb (zk_m_t.mpr ⟨zk_m_t.mpr ⟨sa, na⟩, p⟩) (zk_m_t.mpr ⟨zk_m_t.mpr ⟨sb, nb⟩, q⟩) gab with z | z
          · exact Or.inl (zk_o_t.mpr (Or.inr z))
          · exact Or.inr (zk_o_t.mpr (Or.inr z))
theorem zk_br3 {g : Nat → Nat → Bool} {S : Nat → Bool} {v : Nat} (hv : v < 8) (hS : S v = true) : zk_tau g (zk_m S (zk_1 v)) + 1 ≤ zk_tau g S ∨ zk_d (zk_a (g v) S) + zk_tau g (zk_m (zk_m S (zk_a (g v) S)) (zk_1 v)) ≤ zk_tau g S := by
  obtain ⟨C, hc, e⟩ := zk_tau_ex g S
  rw [← e]
  rcases zk_bc2 (C v) with cv | cv
  · left
    rw [zk_d_del hv cv]
    refine Nat.add_le_add_right (zk_tau_le (fun a b ha hb sa sb gab => ?_)) 1
    rcases hc a b ha hb (zk_m_t.mp sa).1 (zk_m_t.mp sb).1 gab with z | z
    · exact Or.inl (zk_m_t.mpr ⟨z, (zk_m_t.mp sa).2⟩)
    · exact Or.inr (zk_m_t.mpr ⟨z, (zk_m_t.mp sb).2⟩)
  · right
    rw [zk_d_part C (zk_a (g v) S)]
    refine Nat.add_le_add (zk_d_le (fun i hi z => zk_a_t.mpr ⟨?_, z⟩)) (zk_tau_le (fun a b ha hb sa sb gab => ?_))
    · obtain ⟨z1, z2⟩ := zk_a_t.mp z
      exact (hc v i hv hi hS z2 z1).elim (fun t => (zk_tf t cv).elim) id
    · obtain ⟨sa1, _⟩ := zk_m_t.mp sa
      obtain ⟨sb1, _⟩ := zk_m_t.mp sb
      rcases hc a b ha hb (zk_m_t.mp sa1).1 (zk_m_t.mp sb1).1 gab with z | z
      · exact Or.inl (zk_m_t.mpr ⟨z, (zk_m_t.mp sa1).2⟩)
      · exact Or.inr (zk_m_t.mpr ⟨z, (zk_m_t.mp sb1).2⟩)
/-! covers with all of I and none of O -/
def zk_al : Nat → Bool := fun _ => true
def zk_fc (g : Nat → Nat → Bool) (I O C : Nat → Bool) : Prop := zk_cov g zk_al C ∧ (∀ i, i < 8 → I i = true → C i = true) ∧ (∀ i, i < 8 → O i = true → C i = false)
theorem zk_fc_no {g : Nat → Nat → Bool} {I O M : Nat → Bool} (hM : ∀ w, w < 8 → M w = true → I w = true ∨ ∃ v, v < 8 ∧ O v = true ∧ g v w = true) {i : Nat} (hi : i < 8) (mi : M i = true) (oi : O i = true) : ∀ C, ¬ zk_fc g I O C := by
  intro C h
  obtain ⟨hc, hI, hO⟩ := h
  rcases hM i hi mi with z | ⟨v, hv, ov, gv⟩
  · exact zk_tf (hI i hi z) (hO i hi oi)
  · exact (hc v i hv hi rfl rfl gv).elim (fun z => zk_tf z (hO v hv ov)) (fun z => zk_tf z (hO i hi oi))
theorem zk_fc_le {g : Nat → Nat → Bool} {I O M T : Nat → Bool} (hM : ∀ w, w < 8 → M w = true → I w = true ∨ ∃ v, v < 8 ∧ O v = true ∧ g v w = true) (hT : ∀ i, i < 8 → T i = true → M i = false ∧ O i = false) {C : Nat → Bool} (h : zk_fc g I O C) : zk_d M + zk_tau g T ≤ zk_d C := by
  obtain ⟨hc, hI, hO⟩ := h
  have hMC : ∀ i, i < 8 → M i = true → C i = true := fun i hi mi => by
    rcases hM i hi mi with z | ⟨v, hv, ov, gv⟩
    · exact hI i hi z
    · exact (hc v i hv hi rfl rfl gv).elim (fun z => (zk_tf z (hO v hv ov)).elim) id
  rw [zk_d_part C M]
  refine Nat.add_le_add (zk_d_le (fun i hi z => zk_a_t.mpr ⟨hMC i hi z, z⟩)) (zk_tau_le (fun a b ha hb sa sb gab => ?_))
  rcases hc a b ha hb rfl rfl gab with z | z
  · exact Or.inl (zk_m_t.mpr ⟨z, (hT a ha sa).1⟩)
  · exact Or.inr (zk_m_t.mpr ⟨z, (hT b hb sb).1⟩)
theorem zk_fc_ex {g : Nat → Nat → Bool} (hy : zk_sym g) {I O M T : Nat → Bool} (hI : ∀ w, w < 8 → I w = true → M w = true) (hN : ∀ v w, v < 8 → w < 8 → O v = true → g v w = true → M w = true) (hD : ∀ i, i < 8 → M i = true → O i = false) (hT : ∀ i, i < 8 → T i = true → M i = false ∧ O i = false) (hT2 : ∀ i, i < 8 → M i = false → O i = false → T i = true) : ∃ C, zk_fc g I O C ∧ zk_d C = zk_d M + zk_tau g T := by
  obtain ⟨C, hc, e, hin⟩ := zk_tau_in g T
  refine ⟨zk_o M C, ⟨fun a b ha hb _ _ gab => ?_, fun i hi z => zk_o_t.mpr (Or.inl (hI i hi z)), fun i hi z => zk_nt (fun q => ?_)⟩, ?_⟩
  · rcases zk_bc2 (M a) with ma | ma
    · exact Or.inl (zk_o_t.mpr (Or.inl ma))
    · rcases zk_bc2 (M b) with mb | mb
      · exact Or.inr (zk_o_t.mpr (Or.inl mb))
      · have oa : O a = false := zk_nt (fun z => zk_tf (hN a b ha hb z gab) mb)
        have ob : O b = false := zk_nt (fun z => zk_tf (hN b a hb ha z (hy a b ha hb gab)) ma)
        rcases hc a b ha hb (hT2 a ha ma oa) (hT2 b hb mb ob) gab with z | z
        · exact Or.inl (zk_o_t.mpr (Or.inr z))
        · exact Or.inr (zk_o_t.mpr (Or.inr z))
  · rcases zk_o_t.mp q with q | q
    · exact zk_tf z (hD i hi q)
    · exact zk_tf z (hT i hi (hin i hi q)).2
  · rw [← e]
    exact zk_d_disj (fun i hi z q => zk_tf z (hT i hi (hin i hi q)).1)
/-! covers of the pairs between L and R -/
def zk_bcov (g : Nat → Nat → Bool) (L R A B : Nat → Bool) : Prop := ∀ u w, u < 8 → w < 8 → L u = true → R w = true → g u w = true → A u = true ∨ B w = true
theorem zk_bex (g : Nat → Nat → Bool) (L R : Nat → Bool) : ∃ k, ∃ A B, zk_bcov g L R A B ∧ zk_d A + zk_d B = k := ⟨_, fun _ => true, fun _ => true, fun _ _ _ _ _ _ _ => Or.inl rfl, rfl⟩
noncomputable def zk_bc (g : Nat → Nat → Bool) (L R : Nat → Bool) : Nat := Classical.choose (pk_least (fun k => ∃ A B, zk_bcov g L R A B ∧ zk_d A + zk_d B = k) (zk_bex g L R))
theorem zk_bc_ex (g : Nat → Nat → Bool) (L R : Nat → Bool) : ∃ A B, zk_bcov g L R A B ∧ zk_d A + zk_d B = zk_bc g L R := (Classical.choose_spec (pk_least (fun k => ∃ A B, zk_bcov g L R A B ∧ zk_d A + zk_d B = k) (zk_bex g L R))).1
theorem zk_bc_le {g : Nat → Nat → Bool} {L R A B : Nat → Bool} (h : zk_bcov g L R A B) : zk_bc g L R ≤ zk_d A + zk_d B := by
  rcases Nat.lt_or_ge (zk_d A + zk_d B) (zk_bc g L R) with z | z
  · exact absurd ⟨A, B, h, rfl⟩ ((Classical.choose_spec (pk_least (fun k => ∃ A B, zk_bcov g L R A B ∧ zk_d A + zk_d B = k) (zk_bex g L R))).2 _ z)
  · exact z
theorem zk_bc_mono {g : Nat → Nat → Bool} {L R L' R' : Nat → Bool} (h : ∀ i, i < 8 → L i = true → L' i = true) (h' : ∀ i, i < 8 → R i = true → R' i = true) : zk_bc g L R ≤ zk_bc g L' R' := by
  obtain ⟨A, B, hc, e⟩ := zk_bc_ex g L' R'
  rw [← e]
  exact zk_bc_le (fun u w hu hw su sw => hc u w hu hw (h u hu su) (h' w hw sw))
theorem zk_bc_eq {g : Nat → Nat → Bool} {L R L' R' : Nat → Bool} (h : ∀ i, i < 8 → L i = L' i) (h' : ∀ i, i < 8 → R i = R' i) : zk_bc g L R = zk_bc g L' R' :=
  Nat.le_antisymm (zk_bc_mono (fun i hi z => by rw [← h i hi]; exact z) (fun i hi z => by rw [← h' i hi]; exact z)) (zk_bc_mono (fun i hi z => by rw [h i hi]; exact z) (fun i hi z => by rw [h' i hi]; exact z))
theorem zk_bc_8 (g : Nat → Nat → Bool) (L R : Nat → Bool) : zk_bc g L R ≤ 8 := by
  have := zk_bc_le (g := g) (L := L) (R := R) (A := fun _ => true) (B := fun _ => false) (fun _ _ _ _ _ _ _ => Or.inl rfl)
  rw [zk_d_none (A := fun _ => false) (fun _ _ => rfl)] at this
  have := zk_d_8 (fun _ => true)
  omega
end
section
/-! the three costs of a vertex -/
def zk_own (v : Nat) : Nat → Bool := zk_m zk_al (zk_1 v)
def zk_far (g : Nat → Nat → Bool) (v : Nat) : Nat → Bool := zk_m (zk_own v) (g v)
theorem zk_own_t {v i : Nat} (h : i ≠ v) : zk_own v i = true := zk_m_t.mpr ⟨rfl, zk_1_f.mpr h⟩
theorem zk_own_n {v i : Nat} (h : zk_own v i = true) : i ≠ v := zk_1_f.mp (zk_m_t.mp h).2
theorem zk_far_t {g : Nat → Nat → Bool} {v i : Nat} (h : i ≠ v) (e : g v i = false) : zk_far g v i = true := zk_m_t.mpr ⟨zk_own_t h, e⟩
theorem zk_far_n {g : Nat → Nat → Bool} {v i : Nat} (h : zk_far g v i = true) : i ≠ v ∧ g v i = false := ⟨zk_own_n (zk_m_t.mp h).1, (zk_m_t.mp h).2⟩
noncomputable def zk_cost (g : Nat → Nat → Bool) (v n : Nat) : Nat :=
  if n = 2 then 2 + zk_bc g (zk_own v) (zk_own v) else if n = 1 then 1 + zk_d (g v) + zk_bc g (zk_far g v) (zk_own v) else 2 * zk_d (g v) + zk_bc g (zk_far g v) (zk_far g v)
noncomputable def zk_h (g : Nat → Nat → Bool) : Nat := zk_bc g zk_al zk_al
theorem zk_c2 (g : Nat → Nat → Bool) {v : Nat} (hv : v < 8) : zk_h g ≤ 2 + zk_bc g (zk_own v) (zk_own v) := by
  obtain ⟨A, B, hc, e⟩ := zk_bc_ex g (zk_own v) (zk_own v)
  have t : zk_h g ≤ zk_d (zk_o A (zk_1 v)) + zk_d (zk_o B (zk_1 v)) := zk_bc_le (fun a b ha hb _ _ gab => by
    by_cases p : a = v
    · exact Or.inl (zk_o_t.mpr (Or.inr (zk_1_t.mpr p)))
    · by_cases q : b = v
      · exact Or.inr (zk_o_t.mpr (Or.inr (zk_1_t.mpr q)))
      · exact (hc a b ha hb (zk_own_t p) (zk_own_t q) gab).elim (fun z => Or.inl (zk_o_t.mpr (Or.inl z))) (fun z => Or.inr (zk_o_t.mpr (Or.inl z))))
  have t1 := zk_d_ins A hv
  have t2 := zk_d_ins B hv
  omega
theorem zk_c1 {g : Nat → Nat → Bool} (hy : zk_sym g) {v : Nat} (hv : v < 8) : zk_h g ≤ 1 + zk_d (g v) + zk_bc g (zk_far g v) (zk_own v) := by
  obtain ⟨A, B, hc, e⟩ := zk_bc_ex g (zk_far g v) (zk_own v)
  have t : zk_h g ≤ zk_d (zk_o (zk_o A (g v)) (zk_1 v)) + zk_d B := zk_bc_le (fun a b ha hb _ _ gab => by
    by_cases p : a = v
    · exact Or.inl (zk_o_t.mpr (Or.inr (zk_1_t.mpr p)))
    · rcases zk_bc2 (g v a) with ga | ga
      · exact Or.inl (zk_o_t.mpr (Or.inl (zk_o_t.mpr (Or.inr ga))))
      · have q : b ≠ v := fun q => by
          rw [q] at gab
          exact zk_tf (hy a v ha hv gab) ga
        exact (hc a b ha hb (zk_far_t p ga) (zk_own_t q) gab).elim (fun z => Or.inl (zk_o_t.mpr (Or.inl (zk_o_t.mpr (Or.inl z))))) (fun z => Or.inr z))
  have t1 := zk_d_ins (zk_o A (g v)) hv
  have t2 := zk_d_sub (A := zk_o A (g v)) (B := A) (C := g v) (fun i _ z => zk_o_t.mp z)
  omega
theorem zk_c0 {g : Nat → Nat → Bool} (hy : zk_sym g) {v : Nat} (hv : v < 8) : zk_h g ≤ 2 * zk_d (g v) + zk_bc g (zk_far g v) (zk_far g v) := by
  obtain ⟨A, B, hc, e⟩ := zk_bc_ex g (zk_far g v) (zk_far g v)
  have t : zk_h g ≤ zk_d (zk_o A (g v)) + zk_d (zk_o B (g v)) := zk_bc_le (fun a b ha hb _ _ gab => by
    rcases zk_bc2 (g v a) with ga | ga
    · exact Or.inl (zk_o_t.mpr (Or.inr ga))
    · rcases zk_bc2 (g v b) with gb | gb
      · exact Or.inr (zk_o_t.mpr (Or.inr gb))
      · have p : a ≠ v := fun p => by
          rw [p] at gab
          exact zk_tf gab gb
        have q : b ≠ v := fun q => by
          rw [q] at gab
          exact zk_tf (hy a v ha hv gab) ga
        exact (hc a b ha hb (zk_far_t p ga) (zk_far_t q gb) gab).elim (fun z => Or.inl (zk_o_t.mpr (Or.inl z))) (fun z => Or.inr (zk_o_t.mpr (Or.inl z))))
  have t1 := zk_d_sub (A := zk_o A (g v)) (B := A) (C := g v) (fun i _ z => zk_o_t.mp z)
  have t2 := zk_d_sub (A := zk_o B (g v)) (B := B) (C := g v) (fun i _ z => zk_o_t.mp z)
  omega
theorem zk_d_rest {A N : Nat → Bool} (h : ∀ i, i < 8 → N i = true → A i = true) : zk_d A = zk_d N + zk_d (zk_m A N) := by
  rw [zk_d_part A N]
  refine congrArg (· + zk_d (zk_m A N)) (Nat.le_antisymm (zk_d_le (fun i _ z => (zk_a_t.mp z).2)) (zk_d_le (fun i hi z => zk_a_t.mpr ⟨h i hi z, z⟩)))
/-- v and its neighbours in A: what is left of A covers the far ones -/
theorem zk_d_rest1 {g : Nat → Nat → Bool} {A : Nat → Bool} {v : Nat} (hv : v < 8) (irr : g v v = false) (av : A v = true) (h : ∀ i, i < 8 → g v i = true → A i = true) : zk_d A = 1 + zk_d (g v) + zk_d (zk_m (zk_m A (zk_1 v)) (g v)) := by
  have e1 := zk_d_del hv av
  have e2 := zk_d_rest (A := zk_m A (zk_1 v)) (N := g v) (fun i hi z => zk_m_t.mpr ⟨h i hi z, zk_1_f.mpr (fun q => by rw [q] at z; exact zk_tf z irr)⟩)
  omega
theorem zk_cx {g : Nat → Nat → Bool} (hy : zk_sym g) {v : Nat} (hv : v < 8) (irr : g v v = false) : 2 + zk_bc g (zk_own v) (zk_own v) ≤ zk_h g ∨ 1 + zk_d (g v) + zk_bc g (zk_far g v) (zk_own v) ≤ zk_h g ∨ 2 * zk_d (g v) + zk_bc g (zk_far g v) (zk_far g v) ≤ zk_h g := by
  obtain ⟨A, B, hc, e⟩ := zk_bc_ex g zk_al zk_al
  have e' : zk_d A + zk_d B = zk_h g := e
  rcases zk_bc2 (A v) with av | av
  · rcases zk_bc2 (B v) with bv | bv
    · left
      have t : zk_bc g (zk_own v) (zk_own v) ≤ zk_d (zk_m A (zk_1 v)) + zk_d (zk_m B (zk_1 v)) := zk_bc_le (fun a b ha hb sa sb gab =>
        (hc a b ha hb rfl rfl gab).elim (fun z => Or.inl (zk_m_t.mpr ⟨z, zk_1_f.mpr (zk_own_n sa)⟩)) (fun z => Or.inr (zk_m_t.mpr ⟨z, zk_1_f.mpr (zk_own_n sb)⟩)))
      have t1 := zk_d_del hv av
      have t2 := zk_d_del hv bv
      omega
    · right
      left
      have hN : ∀ i, i < 8 → g v i = true → A i = true := fun i hi z => (hc i v hi hv rfl rfl (hy v i hv hi z)).elim id (fun q => (zk_tf q bv).elim)
      have t : zk_bc g (zk_far g v) (zk_own v) ≤ zk_d (zk_m (zk_m A (zk_1 v)) (g v)) + zk_d B := zk_bc_le (fun a b ha hb sa sb gab =>
        (hc a b ha hb rfl rfl gab).elim (fun z => Or.inl (zk_m_t.mpr ⟨zk_m_t.mpr ⟨z, zk_1_f.mpr (zk_far_n sa).1⟩, (zk_far_n sa).2⟩)) (fun z => Or.inr z))
      have t1 := zk_d_rest1 hv irr av hN
      omega
  · rcases zk_bc2 (B v) with bv | bv
    · right
      left
      have hN : ∀ i, i < 8 → g v i = true → B i = true := fun i hi z => (hc v i hv hi rfl rfl z).elim (fun q => (zk_tf q av).elim) id
      have t : zk_bc g (zk_far g v) (zk_own v) ≤ zk_d (zk_m (zk_m B (zk_1 v)) (g v)) + zk_d A := zk_bc_le (fun a b ha hb sa sb gab =>
        (hc b a hb ha rfl rfl (hy a b ha hb gab)).elim (fun z => Or.inr z) (fun z => Or.inl (zk_m_t.mpr ⟨zk_m_t.mpr ⟨z, zk_1_f.mpr (zk_far_n sa).1⟩, (zk_far_n sa).2⟩)))
      have t1 := zk_d_rest1 hv irr bv hN
      omega
    · right
      right
      have hN : ∀ i, i < 8 → g v i = true → A i = true := fun i hi z => (hc i v hi hv rfl rfl (hy v i hv hi z)).elim id (fun q => (zk_tf q bv).elim)
      have hM : ∀ i, i < 8 → g v i = true → B i = true := fun i hi z => (hc v i hv hi rfl rfl z).elim (fun q => (zk_tf q av).elim) id
      have t : zk_bc g (zk_far g v) (zk_far g v) ≤ zk_d (zk_m A (g v)) + zk_d (zk_m B (g v)) := zk_bc_le (fun a b ha hb sa sb gab =>
        (hc a b ha hb rfl rfl gab).elim (fun z => Or.inl (zk_m_t.mpr ⟨z, (zk_far_n sa).2⟩)) (fun z => Or.inr (zk_m_t.mpr ⟨z, (zk_far_n sb).2⟩)))
      have t1 := zk_d_rest hN
      have t2 := zk_d_rest hM
      omega
theorem zk_hC {g : Nat → Nat → Bool} {C : Nat → Bool} (h : zk_cov g zk_al C) : zk_h g ≤ 2 * zk_d C := by
  have t : zk_h g ≤ zk_d C + zk_d C := zk_bc_le (fun a b ha hb _ _ gab => h a b ha hb rfl rfl gab)
  omega
theorem zk_c0C {g : Nat → Nat → Bool} {C : Nat → Bool} {v : Nat} (hv : v < 8) (h : zk_cov g zk_al C) (cv : C v = false) : 2 * zk_d (g v) + zk_bc g (zk_far g v) (zk_far g v) ≤ 2 * zk_d C := by
  have hN : ∀ i, i < 8 → g v i = true → C i = true := fun i hi z => (h v i hv hi rfl rfl z).elim (fun q => (zk_tf q cv).elim) id
  have t : zk_bc g (zk_far g v) (zk_far g v) ≤ zk_d (zk_m C (g v)) + zk_d (zk_m C (g v)) := zk_bc_le (fun a b ha hb sa sb gab =>
    (h a b ha hb rfl rfl gab).elim (fun z => Or.inl (zk_m_t.mpr ⟨z, (zk_far_n sa).2⟩)) (fun z => Or.inr (zk_m_t.mpr ⟨z, (zk_far_n sb).2⟩)))
  have t1 := zk_d_rest hN
  omega
theorem zk_cost_ge {g : Nat → Nat → Bool} (hy : zk_sym g) {v : Nat} (hv : v < 8) (n : Nat) : zk_h g ≤ zk_cost g v n := by
  unfold zk_cost
  by_cases h2 : n = 2
  · rw [if_pos h2]
    exact zk_c2 g hv
  · rw [if_neg h2]
    by_cases h1 : n = 1
    · rw [if_pos h1]
      exact zk_c1 hy hv
    · rw [if_neg h1]
      exact zk_c0 hy hv
theorem zk_cost_some {g : Nat → Nat → Bool} (hy : zk_sym g) {v : Nat} (hv : v < 8) (irr : g v v = false) : zk_cost g v 0 = zk_h g ∨ zk_cost g v 1 = zk_h g ∨ zk_cost g v 2 = zk_h g := by
  rcases zk_cx hy hv irr with z | z | z
  · exact Or.inr (Or.inr (Nat.le_antisymm z (zk_cost_ge hy hv 2)))
  · exact Or.inr (Or.inl (Nat.le_antisymm z (zk_cost_ge hy hv 1)))
  · exact Or.inl (Nat.le_antisymm z (zk_cost_ge hy hv 0))
/-- a least cover without v, and halves twice the least: v can have 0 -/
theorem zk_within {g : Nat → Nat → Bool} (hy : zk_sym g) {C : Nat → Bool} {v : Nat} (hv : v < 8) (h : zk_cov g zk_al C) (cv : C v = false) (hd : zk_d C = zk_tau g zk_al) (hh : zk_h g = 2 * zk_tau g zk_al) : zk_cost g v 0 = zk_h g := by
  refine Nat.le_antisymm ?_ (zk_cost_ge hy hv 0)
  have := zk_c0C hv h cv
  rw [hh, ← hd]
  exact this
end
section
/-! masks below 256 as ints -/
theorem zk_and (a b : Nat) : nI a &&& nI b = nI (a &&& b) := by
  apply Int32.toBitVec_inj.1
  show BitVec.ofNat 32 a &&& BitVec.ofNat 32 b = BitVec.ofNat 32 (a &&& b)
  apply BitVec.eq_of_getLsbD_eq
  intro i hi
  simp [hi]
theorem zk_or (a b : Nat) : nI a ||| nI b = nI (a ||| b) := by
  apply Int32.toBitVec_inj.1
  show BitVec.ofNat 32 a ||| BitVec.ofNat 32 b = BitVec.ofNat 32 (a ||| b)
  apply BitVec.eq_of_getLsbD_eq
  intro i hi
  simp [hi]
theorem zk_xor (a b : Nat) : nI a ^^^ nI b = nI (a ^^^ b) := by
  apply Int32.toBitVec_inj.1
  show BitVec.ofNat 32 a ^^^ BitVec.ofNat 32 b = BitVec.ofNat 32 (a ^^^ b)
  apply BitVec.eq_of_getLsbD_eq
  intro i hi
  simp [hi]
theorem zk_sl : ∀ n, n < 32 → ((nI n &&& 31).toBitVec.smod 32).toNat = n := by decide +kernel
theorem zk_sh1 : ∀ v, v < 8 → (1 : Int32) <<< (nI v &&& 31) = nI (2 ^ v) := by decide +kernel
theorem zk_pw : ∀ v, v < 8 → 2 ^ v < 256 := by decide
theorem zk_s16 : ∀ n, n < 256 → (nI n).toInt16.toInt32 = nI n := by decide +kernel
theorem zk_s8 : ∀ n, n < 128 → (nI n).toInt8.toInt32 = nI n := by decide +kernel
theorem zk_bit {S v : Nat} (hS : S < 256) (hv : v < 8) : (nI S >>> (nI v &&& 31)) &&& 1 = nI (S.testBit v).toNat := by
  rw [pk_shrN (by omega) (nI v &&& 31) v (zk_sl v (by omega))]
  show nI (S / 2 ^ v) &&& nI 1 = _
  rw [zk_and, Nat.and_one_is_mod, Nat.toNat_testBit]
def zk_df (S T : Nat) : Nat := S &&& (T ^^^ 255)
theorem zk_df_lt {S : Nat} (T : Nat) (h : S < 256) : zk_df S T < 256 := Nat.lt_of_le_of_lt Nat.and_le_left h
theorem zk_255 {i : Nat} (hi : i < 8) : (255 : Nat).testBit i = true := by
  have : (255 : Nat).testBit i = decide (i < 8) := Nat.testBit_two_pow_sub_one 8 i
  rw [this]
  exact decide_eq_true hi
theorem zk_hi {S i : Nat} (h : S < 256) (hi : 8 ≤ i) : S.testBit i = false :=
  Nat.testBit_lt_two_pow (Nat.lt_of_lt_of_le (show S < 2 ^ 8 from h) (Nat.pow_le_pow_right (by decide) hi))
theorem zk_df_b {S T i : Nat} (hi : i < 8) : (zk_df S T).testBit i = (S.testBit i && !T.testBit i) := by
  unfold zk_df
  rw [Nat.testBit_and, Nat.testBit_xor, zk_255 hi, Bool.xor_true]
theorem zk_m1 : (-1 : Int32) = nI 4294967295 := by decide
theorem zk_diff {S : Nat} (T : Nat) (h : S < 256) : nI S &&& (nI T ^^^ (-1)) = nI (zk_df S T) := by
  rw [zk_m1, zk_xor, zk_and]
  refine congrArg nI (Nat.eq_of_testBit_eq (fun i => ?_))
  rcases Nat.lt_or_ge i 8 with hi | hi
  · have e : (4294967295 : Nat).testBit i = true := by
      have : (4294967295 : Nat).testBit i = decide (i < 32) := Nat.testBit_two_pow_sub_one 32 i
      rw [this]
      exact decide_eq_true (by omega)
    rw [Nat.testBit_and, Nat.testBit_xor, zk_df_b hi, e, Bool.xor_true]
  · unfold zk_df
    rw [Nat.testBit_and, Nat.testBit_and, zk_hi h hi, Bool.false_and, Bool.false_and]
theorem zk_pw_b {v i : Nat} : (2 ^ v).testBit i = zk_1 v i := by
  rw [Nat.testBit_two_pow]
  unfold zk_1
  by_cases h : v = i
  · rw [decide_eq_true h, decide_eq_true h.symm]
  · rw [decide_eq_false h, decide_eq_false (fun z => h z.symm)]
theorem zk_dp_b {S v i : Nat} (hi : i < 8) : (zk_df S (2 ^ v)).testBit i = zk_m S.testBit (zk_1 v) i := by
  rw [zk_df_b hi, zk_pw_b]
  rfl
theorem zk_or_lt {a b : Nat} (ha : a < 256) (hb : b < 256) : a ||| b < 256 := Nat.or_lt_two_pow (n := 8) ha hb
theorem zk_and_lt {a : Nat} (b : Nat) (ha : a < 256) : a &&& b < 256 := Nat.lt_of_le_of_lt Nat.and_le_left ha
theorem zk_z {S : Nat} (hS : S < 256) (h : ∀ i, i < 8 → S.testBit i = false) : S = 0 := by
  refine Nat.eq_of_testBit_eq (fun i => ?_)
  rw [Nat.zero_testBit]
  rcases Nat.lt_or_ge i 8 with hi | hi
  · exact h i hi
  · exact zk_hi hS hi
theorem zk_nz {S : Nat} (hS : S < 256) (h : S ≠ 0) : ∃ i, i < 8 ∧ S.testBit i = true := by
  refine Classical.byContradiction (fun z => h (zk_z hS (fun i hi => zk_nt (fun e => z ⟨i, hi, e⟩))))
/-- a mask that is 0 as an int, or isn't -/
theorem zk_if0 {x : Int32} {A B : Prop} (S : Nat) (hx : x = nI S) (hS : S < 256) (f : (∀ i, i < 8 → S.testBit i = false) → A) (g : (∃ i, i < 8 ∧ S.testBit i = true) → B) : (x = 0 → A) ∧ (¬ x = 0 → B) := by
  subst hx
  refine pk_eq S 0 (fun z => f (fun i _ => ?_)) (fun z => g (zk_nz hS z))
  rw [z]
  exact Nat.zero_testBit i
/-! the graph -/
def zk_g (J : Nat → Nat) : Nat → Nat → Bool := fun u w => (J u).testBit w
def zk_G (J : Nat → Nat) : Prop := (∀ v, v < 8 → J v < 256) ∧ zk_sym (zk_g J) ∧ ∀ v, v < 8 → zk_g J v v = false
def zk_K (J : Nat → Nat) (a1 : Nat → Int32) : Prop := ∀ v, v < 8 → a1 v = nI (J v)
def zk_U (J : Nat → Nat) (u : St1) : Prop := zk_K J u.2.1
end
section
/-! the small methods -/
theorem zk_in {post : Int32 → Prop} {x y : Int32} {u : St2} (S v : Nat) (hx : x = nI S) (hy : y = nI v) (hS : S < 256) (hv : v < 8) (h0 : S.testBit v = false → post 0) (h1 : S.testBit v = true → post 1) : wpX_in post u x y := by
  subst hx hy
  unfold wpX_in
  rw [zk_bit hS hv]
  cases e : S.testBit v with
  | false => exact br_t nI_0 (h0 e)
  | true => exact br_f (by decide) (h1 e)
theorem zk_ones4 {post : Int32 → Prop} {S : Nat} (hS : S < 256) (h : post (nI (zk_d S.testBit))) : ∀ n i, i ≤ 8 → 8 - i < n → wX_ones_4 post (nI S) n (nI (zk_S i (fun v => (S.testBit v).toNat))) (nI i) := by
  intro n
  induction n with
  | zero =>
    intro i h1 h2
    omega
  | succ n ih =>
    intro i hi hn
    refine pk_le 8 i (fun z => ?_) (fun z => ?_)
    · have e : i = 8 := by omega
      subst e
      exact h
    · refine nm_r (e' := nI (zk_S (i + 1) (fun v => (S.testBit v).toNat))) ?_ (nm_r (nI_1 i) (ih (i + 1) z (by omega)))
      rw [zk_bit hS z, nI_add]
      rfl
theorem zk_ones {post : Int32 → Prop} {u : St2} {p : Int32} (S : Nat) (hp : p = nI S) (hS : S < 256) (h : post (nI (zk_d S.testBit))) : wpX_ones post u p := by
  subst hp
  exact ⟨9, zk_ones4 hS h 9 0 (by omega) (by omega)⟩
theorem zk_Lones4 {post : Int32 → Prop} {S : Nat} (hS : S < 256) (h : post (nI (zk_d S.testBit))) : ∀ n i, i ≤ 8 → 8 - i < n → wL_ones_4 post (nI S) n (nI (zk_S i (fun v => (S.testBit v).toNat))) (nI i) := by
  intro n
  induction n with
  | zero =>
    intro i h1 h2
    omega
  | succ n ih =>
    intro i hi hn
    refine pk_le 8 i (fun z => ?_) (fun z => ?_)
    · have e : i = 8 := by omega
      subst e
      exact h
    · refine nm_r (e' := nI (zk_S (i + 1) (fun v => (S.testBit v).toNat))) ?_ (nm_r (nI_1 i) (ih (i + 1) z (by omega)))
      rw [zk_bit hS z, nI_add]
      rfl
theorem zk_Lones {post : Int32 → Prop} {u : St2} {p : Int32} (S : Nat) (hp : p = nI S) (hS : S < 256) (h : post (nI (zk_d S.testBit))) : wpL_ones post u p := by
  subst hp
  exact ⟨9, zk_Lones4 hS h 9 0 (by omega) (by omega)⟩
section
variable {f0 : Int32} {a1 a2 a3 a4 a5 a6 a7 a8 a9 a10 : Nat → Int32}
theorem zk_push {post : St1 → Prop} {p0 p1 : Int32} (b l t : Nat) (hf : f0 = nI b) (hp0 : p0 = nI l) (hp1 : p1 = nI t) (hb : b < 64) (hl : l < 256) (ht : t < 128) (h : post (nI (b + 1), a1, upd a2 b (nI l), upd a3 b (nI t), a4, a5, a6, a7, a8, a9, a10)) : wpX_push post (f0, a1, a2, a3, a4, a5, a6, a7, a8, a9, a10) p0 p1 := by
  subst hf hp0 hp1
  refine ⟨pk_in b 64 hb, nm_r (e' := upd a2 b (nI l)) ?_ ⟨pk_in b 64 hb, nm_r (e' := upd a3 b (nI t)) ?_ (nm_r (nI_1 b) h)⟩⟩
  · rw [nI_clamp (by omega), zk_s16 l hl]
  · rw [nI_clamp (by omega), zk_s8 t ht]
theorem zk_and_d (J S v : Nat) : zk_d (J &&& S).testBit = zk_d (zk_a J.testBit S.testBit) := zk_d_eq (fun i _ => Nat.testBit_and J S i)
/-- a vertex of S with one neighbour there, or -1 -/
theorem zk_wn1_8 {post : Int32 → Prop} {J : Nat → Nat} {S : Nat} (hG : zk_G J) (hK : zk_K J a1) (hS : S < 256) (H0 : post (-1)) (H1 : ∀ v, v < 8 → S.testBit v = true → zk_d (zk_a (zk_g J v) S.testBit) = 1 → post (nI v)) : ∀ (n i : Nat) (x3 x4 : Int32), i ≤ 8 → 8 - i < n → (x3 = -1 ∨ ∃ v, v < 8 ∧ x3 = nI v ∧ S.testBit v = true ∧ zk_d (zk_a (zk_g J v) S.testBit) = 1) → wX_withNeighbours_8 post (nI S) 1 f0 a1 a2 a3 a4 a5 a6 a7 a8 a9 a10 n x3 x4 (nI i) := by
  intro n
  induction n with
  | zero =>
    intro i x3 x4 h1 h2
    omega
  | succ n ih =>
    intro i x3 x4 hi hn hI
    refine pk_le 8 i (fun z => ?_) (fun z => ?_)
    · rcases hI with e | ⟨v, hv, e, h1, h2⟩
      · rw [e]
        exact H0
      · rw [e]
        exact H1 v hv h1 h2
    · refine zk_in S i rfl rfl hS z (fun e => br_t rfl ?_) (fun e => br_f (by decide) ⟨pk_in i 8 z, ?_⟩)
      · exact br_f (by decide) (br_f (by decide) (nm_r (nI_1 i) (ih (i + 1) x3 x4 (by omega) (by omega) hI)))
      · refine zk_ones (J i &&& S) ?_ (zk_and_lt S (hG.1 i z)) (br_f (by decide) (pk_eq _ 1 (fun q => nm_r (nI_1 i) (ih (i + 1) _ _ (by omega) (by omega) (Or.inr ⟨i, z, rfl, e, ?_⟩))) (fun q => nm_r (nI_1 i) (ih (i + 1) x3 x4 (by omega) (by omega) hI)) rfl rfl ?_))
        · rw [nI_clamp (by omega), hK i z, zk_and]
        · rw [← q]
          exact (zk_and_d (J i) S i).symm
        · have := zk_d_8 (J i &&& S).testBit
          omega
theorem zk_wn1 {post : Int32 → Prop} {J : Nat → Nat} {p0 : Int32} {S : Nat} (hp : p0 = nI S) (hG : zk_G J) (hK : zk_K J a1) (hS : S < 256) (H0 : post (-1)) (H1 : ∀ v, v < 8 → S.testBit v = true → zk_d (zk_a (zk_g J v) S.testBit) = 1 → post (nI v)) : wpX_withNeighbours post (f0, a1, a2, a3, a4, a5, a6, a7, a8, a9, a10) p0 1 := by
  subst hp
  exact ⟨9, zk_wn1_8 hG hK hS H0 H1 9 0 _ _ (by omega) (by omega) (Or.inl rfl)⟩
/-- a vertex of S with some neighbour there, or -1 and there is none -/
theorem zk_wn0_8 {post : Int32 → Prop} {J : Nat → Nat} {S : Nat} (hG : zk_G J) (hK : zk_K J a1) (hS : S < 256) (H0 : (∀ v, v < 8 → S.testBit v = true → zk_d (zk_a (zk_g J v) S.testBit) = 0) → post (-1)) (H1 : ∀ v, v < 8 → S.testBit v = true → 1 ≤ zk_d (zk_a (zk_g J v) S.testBit) → post (nI v)) : ∀ (n i m : Nat) (x3 : Int32), i ≤ 8 → 8 - i < n → m ≤ 8 → ((x3 = -1 ∧ m = 0 ∧ ∀ v, v < i → S.testBit v = true → zk_d (zk_a (zk_g J v) S.testBit) = 0) ∨ ∃ v, v < 8 ∧ x3 = nI v ∧ S.testBit v = true ∧ 1 ≤ zk_d (zk_a (zk_g J v) S.testBit)) → wX_withNeighbours_8 post (nI S) 0 f0 a1 a2 a3 a4 a5 a6 a7 a8 a9 a10 n x3 (nI m) (nI i) := by
  intro n
  induction n with
  | zero =>
    intro i m x3 h1 h2
    omega
  | succ n ih =>
    intro i m x3 hi hn hm hI
    refine pk_le 8 i (fun z => ?_) (fun z => ?_)
    · have e : i = 8 := by omega
      subst e
      rcases hI with ⟨e, _, h⟩ | ⟨v, hv, e, h1, h2⟩
      · rw [e]
        exact H0 h
      · rw [e]
        exact H1 v hv h1 h2
    · refine zk_in S i rfl rfl hS z (fun e => br_t rfl ?_) (fun e => br_f (by decide) ⟨pk_in i 8 z, ?_⟩)
      · refine br_t rfl (pk_le 0 m (fun q => nm_r (nI_1 i) (ih (i + 1) m x3 (by omega) (by omega) hm ?_)) (fun q => absurd q (by omega)))
        rcases hI with ⟨e1, e2, h⟩ | h
        · refine Or.inl ⟨e1, e2, fun v hv sv => ?_⟩
          by_cases c : v = i
          · subst c
            exact (zk_tf sv e).elim
          · exact h v (by omega) sv
        · exact Or.inr h
      · have d8 := zk_d_8 (J i &&& S).testBit
        have ed : zk_d (J i &&& S).testBit = zk_d (zk_a (zk_g J i) S.testBit) := zk_and_d (J i) S i
        refine zk_ones (J i &&& S) ?_ (zk_and_lt S (hG.1 i z)) (br_t rfl (pk_le (zk_d (J i &&& S).testBit) m (fun q => nm_r (nI_1 i) (ih (i + 1) m x3 (by omega) (by omega) hm ?_)) (fun q => nm_r (nI_1 i) (ih (i + 1) _ _ (by omega) (by omega) d8 (Or.inr ⟨i, z, rfl, e, by omega⟩)))))
        · rw [nI_clamp (by omega), hK i z, zk_and]
        · rcases hI with ⟨e1, e2, h⟩ | h
          · refine Or.inl ⟨e1, e2, fun v hv sv => ?_⟩
            by_cases c : v = i
            · subst c
              omega
            · exact h v (by omega) sv
          · exact Or.inr h
theorem zk_wn0 {post : Int32 → Prop} {J : Nat → Nat} {p0 : Int32} {S : Nat} (hp : p0 = nI S) (hG : zk_G J) (hK : zk_K J a1) (hS : S < 256) (H0 : (∀ v, v < 8 → S.testBit v = true → zk_d (zk_a (zk_g J v) S.testBit) = 0) → post (-1)) (H1 : ∀ v, v < 8 → S.testBit v = true → 1 ≤ zk_d (zk_a (zk_g J v) S.testBit) → post (nI v)) : wpX_withNeighbours post (f0, a1, a2, a3, a4, a5, a6, a7, a8, a9, a10) p0 0 := by
  subst hp
  exact ⟨9, zk_wn0_8 hG hK hS H0 H1 9 0 0 _ (by omega) (by omega) (by omega) (Or.inl ⟨rfl, rfl, fun v hv => absurd hv (by omega)⟩)⟩
/-- all neighbours of a set -/
theorem zk_an4 {post : Int32 → Prop} {J : Nat → Nat} {S : Nat} (hG : zk_G J) (hK : zk_K J a1) (hS : S < 256) (H : ∀ N, N < 256 → (∀ w, w < 8 → (N.testBit w = true ↔ ∃ v, v < 8 ∧ S.testBit v = true ∧ zk_g J v w = true)) → post (nI N)) : ∀ (n i N : Nat), i ≤ 8 → 8 - i < n → N < 256 → (∀ w, w < 8 → (N.testBit w = true ↔ ∃ v, v < i ∧ S.testBit v = true ∧ zk_g J v w = true)) → wX_allNeighbours_4 post (nI S) f0 a1 a2 a3 a4 a5 a6 a7 a8 a9 a10 n (nI N) (nI i) := by
  intro n
  induction n with
  | zero =>
    intro i N h1 h2
    omega
  | succ n ih =>
    intro i N hi hn hN hI
    refine pk_le 8 i (fun z => ?_) (fun z => ?_)
    · have e : i = 8 := by omega
      subst e
      exact H N hN hI
    · refine zk_in S i rfl rfl hS z (fun e => br_t rfl ?_) (fun e => br_f (by decide) ⟨pk_in i 8 z, ?_⟩)
      · refine nm_r (e' := nI N) ?_ (nm_r (nI_1 i) (ih (i + 1) N (by omega) (by omega) hN (fun w hw => ?_)))
        · rw [← nI_0, zk_or, Nat.or_zero]
        · rw [hI w hw]
          constructor
          · rintro ⟨v, hv, sv, gv⟩
            exact ⟨v, by omega, sv, gv⟩
          · rintro ⟨v, hv, sv, gv⟩
            have c : v ≠ i := fun c => by rw [c] at sv; exact zk_tf sv e
            exact ⟨v, by omega, sv, gv⟩
      · refine nm_r (e' := nI (N ||| J i)) ?_ (nm_r (nI_1 i) (ih (i + 1) (N ||| J i) (by omega) (by omega) (zk_or_lt hN (hG.1 i z)) (fun w hw => ?_)))
        · rw [nI_clamp (by omega), hK i z, zk_or]
        · rw [Nat.testBit_or, Bool.or_eq_true, hI w hw]
          constructor
          · rintro (⟨v, hv, sv, gv⟩ | h)
            · exact ⟨v, by omega, sv, gv⟩
            · exact ⟨i, by omega, e, h⟩
          · rintro ⟨v, hv, sv, gv⟩
            by_cases c : v = i
            · subst c
              exact Or.inr gv
            · exact Or.inl ⟨v, by omega, sv, gv⟩
theorem zk_an {post : Int32 → Prop} {J : Nat → Nat} {p0 : Int32} {S : Nat} (hp : p0 = nI S) (hG : zk_G J) (hK : zk_K J a1) (hS : S < 256) (H : ∀ N, N < 256 → (∀ w, w < 8 → (N.testBit w = true ↔ ∃ v, v < 8 ∧ S.testBit v = true ∧ zk_g J v w = true)) → post (nI N)) : wpX_allNeighbours post (f0, a1, a2, a3, a4, a5, a6, a7, a8, a9, a10) p0 := by
  subst hp
  refine ⟨9, zk_an4 hG hK hS H 9 0 0 (by omega) (by omega) (by omega) (fun w hw => ?_)⟩
  rw [Nat.zero_testBit]
  constructor
  · intro z
    exact Bool.noConfusion z
  · rintro ⟨v, hv, _⟩
    omega
/-- a cover is one -/
theorem zk_ic2 {post : Int32 → Prop} {J : Nat → Nat} {C : Nat} (hG : zk_G J) (hK : zk_K J a1) (hC : C < 256) (hc : zk_cov (zk_g J) zk_al C.testBit) (H : post 1) : ∀ (n i : Nat), i ≤ 8 → 8 - i < n → wX_isCover_2 post (nI C) f0 a1 a2 a3 a4 a5 a6 a7 a8 a9 a10 n (nI i) := by
  intro n
  induction n with
  | zero =>
    intro i h1 h2
    omega
  | succ n ih =>
    intro i hi hn
    refine pk_le 8 i (fun z => H) (fun z => ?_)
    refine zk_in C i rfl rfl hC z (fun e => br_t rfl ⟨pk_in i 8 z, ?_⟩) (fun e => br_f (by decide) (nm_r (nI_1 i) (ih (i + 1) (by omega) (by omega))))
    refine zk_if0 (zk_df (J i) C) ?_ (zk_df_lt C (hG.1 i z)) (fun _ => nm_r (nI_1 i) (ih (i + 1) (by omega) (by omega))) (fun q => ?_)
    · rw [nI_clamp (by omega), hK i z, zk_diff C (hG.1 i z)]
    · obtain ⟨w, hw, q⟩ := q
      rw [zk_df_b hw] at q
      have q2 : (J i).testBit w = true ∧ C.testBit w = false := zk_m_t.mp q
      exact ((hc i w z hw rfl rfl q2.1).elim (fun t => zk_tf t e) (fun t => zk_tf t q2.2)).elim
theorem zk_covers {post : Int32 → Prop} {J : Nat → Nat} {p0 : Int32} {C : Nat} (hp : p0 = nI C) (hG : zk_G J) (hK : zk_K J a1) (hC : C < 256) (hc : zk_cov (zk_g J) zk_al C.testBit) (H : post 1) : wpX_covers post (f0, a1, a2, a3, a4, a5, a6, a7, a8, a9, a10) p0 := by
  subst hp
  exact pk_lt C 0 (fun z => absurd z (by omega)) (fun _ => pk_lt 255 C (fun z => absurd z (by omega)) (fun _ => ⟨9, zk_ic2 hG hK hC hc (br_f (by decide) H) 9 0 (by omega) (by omega)⟩))
/-- the place of u -/
theorem zk_po2 {post : Int32 → Prop} {x : Int32} {w : Nat} (hw : w < 8) (h : a4 w = x) (hu : ∀ w', w' < 8 → a4 w' = x → w' = w) (H : post (nI w)) : ∀ (n i : Nat), i ≤ w → 8 - i < n → wX_placeOf_2 post x f0 a1 a2 a3 a4 a5 a6 a7 a8 a9 a10 n (nI i) := by
  intro n
  induction n with
  | zero =>
    intro i h1 h2
    omega
  | succ n ih =>
    intro i hi hn
    refine pk_le 8 i (fun z => absurd z (by omega)) (fun z => ⟨pk_in i 8 z, ?_⟩)
    rw [nI_clamp (by omega)]
    refine br_c (fun e => ?_) (fun e => nm_r (nI_1 i) (ih (i + 1) ?_ (by omega)))
    · rw [hu i z e]
      exact H
    · have : i ≠ w := fun c => e (by rw [c]; exact h)
      omega
theorem zk_po {post : Int32 → Prop} {x : Int32} (w : Nat) (hw : w < 8) (h : a4 w = x) (hu : ∀ w', w' < 8 → a4 w' = x → w' = w) (H : post (nI w)) : wpX_placeOf post (f0, a1, a2, a3, a4, a5, a6, a7, a8, a9, a10) x :=
  ⟨9, zk_po2 hw h hu H 9 0 (by omega) (by omega)⟩
end
end
section
/-! solve: a stack of branches (left, taken), the top first -/
def zk_wt : Nat → Nat
  | 0 => 1
  | n + 1 => 2 * zk_wt n + 1
theorem zk_wt_pos (n : Nat) : 1 ≤ zk_wt n := by
  cases n with
  | zero => exact Nat.le_refl _
  | succ n =>
    show 1 ≤ 2 * zk_wt n + 1
    omega
theorem zk_wt_mono {a b : Nat} (h : a ≤ b) : zk_wt a ≤ zk_wt b := by
  induction b with
  | zero =>
    have : a = 0 := by omega
    subst this
    exact Nat.le_refl _
  | succ b ih =>
    by_cases e : a = b + 1
    · subst e
      exact Nat.le_refl _
    · have := ih (by omega)
      show zk_wt a ≤ 2 * zk_wt b + 1
      omega
theorem zk_wt_2 {a b c : Nat} (ha : a < c) (hb : b < c) : zk_wt a + zk_wt b + 1 ≤ zk_wt c := by
  cases c with
  | zero => omega
  | succ c =>
    have h1 := zk_wt_mono (show a ≤ c by omega)
    have h2 := zk_wt_mono (show b ≤ c by omega)
    show zk_wt a + zk_wt b + 1 ≤ 2 * zk_wt c + 1
    omega
theorem zk_wt_1 {a c : Nat} (ha : a < c) : zk_wt a + 1 ≤ zk_wt c := by
  have := zk_wt_2 ha ha
  omega
noncomputable def zk_tm (J : Nat → Nat) (l : Nat) : Nat := zk_tau (zk_g J) l.testBit
def zk_St (J : Nat → Nat) (m : Nat) (a2 a3 : Nat → Int32) : List (Nat × Nat) → Prop
  | [] => True
  | p :: r => (a2 r.length = nI p.1 ∧ a3 r.length = nI p.2 ∧ p.1 < 256 ∧ zk_d p.1.testBit + r.length ≤ 8 ∧ p.2 + zk_d p.1.testBit ≤ 8 ∧ m ≤ p.2 + zk_tm J p.1) ∧ zk_St J m a2 a3 r
def zk_pot : List (Nat × Nat) → Nat
  | [] => 0
  | p :: r => zk_wt (zk_d p.1.testBit) + zk_pot r
theorem zk_St_fr {J : Nat → Nat} {m : Nat} {a2 a3 : Nat → Int32} {k : Nat} {x y : Int32} : ∀ (r : List (Nat × Nat)), r.length ≤ k → zk_St J m a2 a3 r → zk_St J m (upd a2 k x) (upd a3 k y) r := by
  intro r
  induction r with
  | nil => exact fun _ _ => trivial
  | cons p r ih =>
    intro hk h
    have hk' : r.length + 1 ≤ k := hk
    refine ⟨?_, ih (by omega) h.2⟩
    rw [pk_un (show r.length ≠ k by omega), pk_un (show r.length ≠ k by omega)]
    exact h.1
theorem zk_St_add {J : Nat → Nat} {m : Nat} {a2 a3 : Nat → Int32} {r : List (Nat × Nat)} (h : zk_St J m a2 a3 r) (l t : Nat) (hl : l < 256) (h1 : zk_d l.testBit + r.length ≤ 8) (h2 : t + zk_d l.testBit ≤ 8) (h3 : m ≤ t + zk_tm J l) : zk_St J m (upd a2 r.length (nI l)) (upd a3 r.length (nI t)) ((l, t) :: r) :=
  ⟨⟨pk_us, pk_us, hl, h1, h2, h3⟩, zk_St_fr r (Nat.le_refl _) h⟩
/-- the two branches at a busy vertex v -/
theorem zk_lone_m {J : Nat → Nat} (hG : zk_G J) {S v : Nat} (hv : v < 8) (sv : S.testBit v = true) (h1 : zk_d (zk_a (zk_g J v) S.testBit) = 1) : zk_tm J S = zk_tm J (zk_df S (J v)) + 1 ∧ zk_d S.testBit = zk_d (zk_df S (J v)).testBit + 1 := by
  have e : ∀ i, i < 8 → (zk_df S (J v)).testBit i = zk_m S.testBit (zk_g J v) i := fun i hi => zk_df_b hi
  constructor
  · show zk_tau (zk_g J) S.testBit = zk_tau (zk_g J) (zk_df S (J v)).testBit + 1
    rw [zk_tau_eq e]
    exact zk_lone hG.2.1 hv sv h1
  · rw [zk_d_eq e, zk_d_part S.testBit (zk_g J v), Nat.add_comm]
    refine congrArg (zk_d (zk_m S.testBit (zk_g J v)) + ·) ?_
    rw [← h1]
    refine zk_d_eq (fun i _ => ?_)
    unfold zk_a
    exact Bool.and_comm _ _
theorem zk_br_m {J : Nat → Nat} (hG : zk_G J) {S v : Nat} (hv : v < 8) (sv : S.testBit v = true) :
    zk_tm J S ≤ 1 + zk_tm J (zk_df S (2 ^ v)) ∧ zk_tm J S ≤ zk_d (J v &&& S).testBit + zk_tm J (zk_df (zk_df S (J v &&& S)) (2 ^ v)) ∧
    (1 + zk_tm J (zk_df S (2 ^ v)) ≤ zk_tm J S ∨ zk_d (J v &&& S).testBit + zk_tm J (zk_df (zk_df S (J v &&& S)) (2 ^ v)) ≤ zk_tm J S) ∧
    zk_d S.testBit = zk_d (zk_df S (2 ^ v)).testBit + 1 ∧ zk_d S.testBit = zk_d (zk_df (zk_df S (J v &&& S)) (2 ^ v)).testBit + zk_d (J v &&& S).testBit + 1 := by
  have e0 : ∀ i, i < 8 → (J v &&& S).testBit i = zk_a (zk_g J v) S.testBit i := fun i hi => Nat.testBit_and (J v) S i
  have e1 : ∀ i, i < 8 → (zk_df S (2 ^ v)).testBit i = zk_m S.testBit (zk_1 v) i := fun i hi => zk_dp_b hi
  have e2 : ∀ i, i < 8 → (zk_df (zk_df S (J v &&& S)) (2 ^ v)).testBit i = zk_m (zk_m S.testBit (zk_a (zk_g J v) S.testBit)) (zk_1 v) i := fun i hi => by
    rw [zk_dp_b hi]
    unfold zk_m
    rw [zk_df_b hi, e0 i hi]
  have t1 : zk_tm J (zk_df S (2 ^ v)) = zk_tau (zk_g J) (zk_m S.testBit (zk_1 v)) := zk_tau_eq e1
  have t2 : zk_tm J (zk_df (zk_df S (J v &&& S)) (2 ^ v)) = zk_tau (zk_g J) (zk_m (zk_m S.testBit (zk_a (zk_g J v) S.testBit)) (zk_1 v)) := zk_tau_eq e2
  rw [t1, t2, zk_d_eq e0, zk_d_eq e1, zk_d_eq e2, Nat.add_comm 1]
  refine ⟨zk_br1 (zk_g J) S.testBit hv, zk_br2 hG.2.1 S.testBit hv, zk_br3 hv sv, zk_d_del hv sv, ?_⟩
  have d1 := zk_d_part S.testBit (zk_a (zk_g J v) S.testBit)
  have d2 := zk_d_del (A := zk_m S.testBit (zk_a (zk_g J v) S.testBit)) hv (zk_m_t.mpr ⟨sv, zk_nt (fun z => zk_tf (zk_a_t.mp z).1 (hG.2.2 v hv))⟩)
  have d3 : zk_d (zk_a S.testBit (zk_a (zk_g J v) S.testBit)) = zk_d (zk_a (zk_g J v) S.testBit) := zk_d_eq (fun i _ => by
    unfold zk_a
    cases S.testBit i <;> cases zk_g J v i <;> rfl)
  omega
theorem zk_busy0 {J : Nat → Nat} {S : Nat} (h : ∀ v, v < 8 → S.testBit v = true → zk_d (zk_a (zk_g J v) S.testBit) = 0) : zk_tm J S = 0 :=
  zk_tau_0 (fun u w hu hw su sw e => zk_tf (zk_a_t.mpr ⟨e, sw⟩) (zk_d_zero (h u hu su) hw))
theorem zk_busy1 {J : Nat → Nat} {S v : Nat} (hv : v < 8) (sv : S.testBit v = true) (h : 1 ≤ zk_d (zk_a (zk_g J v) S.testBit)) : 1 ≤ zk_tm J S := by
  obtain ⟨w, hw, e⟩ := zk_d_some h
  exact zk_tau_pos hv hw sv (zk_a_t.mp e).2 (zk_a_t.mp e).1
/-- some branch of the stack reaches m -/
def zk_at (J : Nat → Nat) (m : Nat) (st : List (Nat × Nat)) : Prop := ∃ p, p ∈ st ∧ p.2 + zk_tm J p.1 = m
theorem zk_s16_step {post : Int32 → St1 → Prop} {J : Nat → Nat} {m : Nat} (hG : zk_G J) (H : ∀ u', zk_U J u' → post (nI m) u') : ∀ (n k B : Nat) (st : List (Nat × Nat)) (a1 a2 a3 a4 a5 a6 a7 a8 a9 a10 : Nat → Int32), 512 - k < n → zk_K J a1 → zk_St J m a2 a3 st → m ≤ B → B ≤ 100 → (B = m ∨ zk_at J m st) → zk_pot st + k ≤ 511 → wX_solve_16 post n (nI B) (nI k) (nI st.length) a1 a2 a3 a4 a5 a6 a7 a8 a9 a10 := by
  intro n
  induction n with
  | zero =>
    intro k B st a1 a2 a3 a4 a5 a6 a7 a8 a9 a10 hn
    omega
  | succ n ih =>
    intro k B st a1 a2 a3 a4 a5 a6 a7 a8 a9 a10 hn hK hSt hB1 hB2 hAt hP
    refine pk_le 512 k (fun z => absurd z (by omega)) (fun _ => ?_)
    cases st with
    | nil =>
      refine pk_le 0 0 (fun _ => ?_) (fun z => absurd z (by omega))
      have e : B = m := by
        rcases hAt with e | ⟨p, hp, _⟩
        · exact e
        · exact absurd hp List.not_mem_nil
      rw [e]
      exact H _ hK
    | cons p r =>
      obtain ⟨l, t⟩ := p
      obtain ⟨⟨e2, e3, hl, hd1, hd2, hm⟩, hr⟩ := hSt
      have hP' : zk_wt (zk_d l.testBit) + zk_pot r + k ≤ 511 := hP
      dsimp only at e2 e3 hl hd1 hd2 hm
      have hw1 := zk_wt_pos (zk_d l.testBit)
      have at0 : ∀ {q : Nat × Nat}, q ∈ (l, t) :: r → q.2 + zk_tm J q.1 = m → t + zk_tm J l = m ∨ zk_at J m r := fun {q} hq e => by
        rcases List.mem_cons.mp hq with c | c
        · subst c
          exact Or.inl e
        · exact Or.inr ⟨q, c, e⟩
      have hAt' : B = m ∨ t + zk_tm J l = m ∨ zk_at J m r := by
        rcases hAt with e | ⟨q, hq, e⟩
        · exact Or.inl e
        · exact Or.inr (at0 hq e)
      have skip : ∀ B', m ≤ B' → B' ≤ B → (B = m → B' = m) → (t + zk_tm J l = m → B' = m) → wX_solve_16 post n (nI B') (nI (k + 1)) (nI r.length) a1 a2 a3 a4 a5 a6 a7 a8 a9 a10 := fun B' b1 b2 b3 b4 => by
        refine ih (k + 1) B' r a1 a2 a3 a4 a5 a6 a7 a8 a9 a10 (by omega) hK hr b1 (by omega) ?_ (by omega)
        rcases hAt' with e | e | e
        · exact Or.inl (b3 e)
        · exact Or.inl (b4 e)
        · exact Or.inr e
      refine pk_le (r.length + 1) 0 (fun z => absurd z (by omega)) (fun _ => nm_r (nI_pred r.length) ⟨pk_in r.length 64 (by omega), nm_r (e' := nI l) ?_ ⟨pk_in r.length 64 (by omega), nm_r (e' := nI t) ?_ ?_⟩⟩)
      · rw [nI_clamp (by omega)]
        exact e2
      · rw [nI_clamp (by omega)]
        exact e3
      have branch : ∀ v, v < 8 → l.testBit v = true → 1 ≤ zk_d (zk_a (zk_g J v) l.testBit) → wX_solve_137 post (wX_solve_16 post n) (nI B) (nI k) (nI l) (nI t) (nI v) (nI r.length) a1 a2 a3 a4 a5 a6 a7 a8 a9 a10 := fun v hv sv hb => by
        have tp := zk_busy1 hv sv hb
        refine pk_le B (t + 1) (fun z => nm_r (nI_1 k) (skip B hB1 (Nat.le_refl _) id (fun e => by omega))) (fun z => ⟨pk_in v 8 hv, nm_r (e' := nI (J v &&& l)) ?_ ?_⟩) rfl (nI_1 t)
        · rw [nI_clamp (by omega), hK v hv, zk_and]
        · obtain ⟨c1, c2, c3, c4, c5⟩ := zk_br_m hG (S := l) hv sv
          have ha : zk_df l (J v &&& l) < 256 := zk_df_lt _ hl
          refine zk_ones (J v &&& l) rfl (zk_and_lt l (hG.1 v hv)) ?_
          refine zk_push r.length (zk_df (zk_df l (J v &&& l)) (2 ^ v)) (t + zk_d (J v &&& l).testBit) rfl ?_ (nI_add _ _) (by omega) (zk_df_lt _ ha) (by omega) ?_
          · rw [zk_sh1 v hv, zk_diff _ hl, zk_diff _ ha]
          refine zk_push (r.length + 1) (zk_df l (2 ^ v)) (t + 1) rfl ?_ (nI_1 t) (by omega) (zk_df_lt _ hl) (by omega) ?_
          · rw [zk_sh1 v hv, zk_diff _ hl]
          refine nm_r (nI_1 k) (ih (k + 1) B ((zk_df l (2 ^ v), t + 1) :: (zk_df (zk_df l (J v &&& l)) (2 ^ v), t + zk_d (J v &&& l).testBit) :: r) _ _ _ _ _ _ _ _ _ _ (by omega) hK ?_ hB1 hB2 ?_ ?_)
          · refine zk_St_add (r := (zk_df (zk_df l (J v &&& l)) (2 ^ v), t + zk_d (J v &&& l).testBit) :: r) (zk_St_add hr _ _ (zk_df_lt _ ha) (by omega) (by omega) (by omega)) _ _ (zk_df_lt _ hl) ?_ (by omega) (by omega)
            show zk_d (zk_df l (2 ^ v)).testBit + (r.length + 1) ≤ 8
            omega
          · rcases hAt' with e | e | ⟨q, hq, e⟩
            · exact Or.inl e
            · right
              rcases c3 with c | c
              · refine ⟨_, List.mem_cons_self, ?_⟩
                show t + 1 + zk_tm J (zk_df l (2 ^ v)) = m
                omega
              · refine ⟨_, List.mem_cons_of_mem _ List.mem_cons_self, ?_⟩
                show t + zk_d (J v &&& l).testBit + zk_tm J (zk_df (zk_df l (J v &&& l)) (2 ^ v)) = m
                omega
            · exact Or.inr ⟨q, List.mem_cons_of_mem _ (List.mem_cons_of_mem _ hq), e⟩
          · show zk_wt (zk_d (zk_df l (2 ^ v)).testBit) + (zk_wt (zk_d (zk_df (zk_df l (J v &&& l)) (2 ^ v)).testBit) + zk_pot r) + (k + 1) ≤ 511
            have := zk_wt_2 (show zk_d (zk_df l (2 ^ v)).testBit < zk_d l.testBit by omega) (show zk_d (zk_df (zk_df l (J v &&& l)) (2 ^ v)).testBit < zk_d l.testBit by omega)
            omega
      have busy : ∀ rl : Int32, (rl = -1 ∨ ∃ w, w < 8 ∧ rl = nI w ∧ l.testBit w = true ∧ zk_d (zk_a (zk_g J w) l.testBit) = 1) → wpX_withNeighbours (fun r_41 => (((0 ≤ r_41 → (((nI B ≤ (nI t + 1) → (wX_solve_137 post (wX_solve_16 post n) (nI B) (nI k) (nI l) (nI t) r_41 (nI r.length) a1 a2 a3 a4 a5 a6 a7 a8 a9 a10)) ∧ (¬ nI B ≤ (nI t + 1) → (((rl < 0 → (wX_solve_137 post (wX_solve_16 post n) (nI B) (nI k) (nI l) (nI t) r_41 (nI r.length) a1 a2 a3 a4 a5 a6 a7 a8 a9 a10)) ∧ (¬ rl < 0 → (vp_in rl 8 ∧ (wpX_push (fun u => match u with | (f0_branches_117, am1311_120, am1312_123, am1313_126, am1314_129, am1315_132, am1316_135, am1317_138, am1318_141, am1319_144, am13110_147) => (∀ x3_148 : Int32, x3_148 = nI k + 1 → (wX_solve_16 post n (nI B) x3_148 f0_branches_117 am1311_120 am1312_123 am1313_126 am1314_129 am1315_132 am1316_135 am1317_138 am1318_141 am1319_144 am13110_147))) (nI r.length, a1, a2, a3, a4, a5, a6, a7, a8, a9, a10) (nI l &&& ((a1 rl.toNatClampNeg) ^^^ (-1))) (nI t + 1)))))))))) ∧ (¬ 0 ≤ r_41 → (((nI B ≤ nI t → (∀ x3_150 : Int32, x3_150 = nI k + 1 → (wX_solve_16 post n (nI B) x3_150 (nI r.length) a1 a2 a3 a4 a5 a6 a7 a8 a9 a10))) ∧ (¬ nI B ≤ nI t → (∀ x3_151 : Int32, x3_151 = nI k + 1 → (wX_solve_16 post n (nI t) x3_151 (nI r.length) a1 a2 a3 a4 a5 a6 a7 a8 a9 a10))))))))) (nI r.length, a1, a2, a3, a4, a5, a6, a7, a8, a9, a10) (nI l) 0 := fun rl hrl => by
        refine zk_wn0 rfl hG hK hl (fun z => br_f (by decide) ?_) (fun v hv sv hb => br_t (nI_pos' (by omega)) ?_)
        · have t0 := zk_busy0 z
          exact pk_le B t (fun q => nm_r (nI_1 k) (skip B hB1 (Nat.le_refl _) id (fun e => by omega))) (fun q => nm_r (nI_1 k) (skip t (by omega) (by omega) (fun e => by omega) (fun e => by omega)))
        · refine pk_le B (t + 1) (fun z => branch v hv sv hb) (fun z => ?_) rfl (nI_1 t)
          rcases hrl with e | ⟨w, hw, e, sw, h1⟩
          · rw [e]
            exact br_t (by decide) (branch v hv sv hb)
          · rw [e]
            obtain ⟨c1, c2⟩ := zk_lone_m hG hw sw h1
            refine br_f (nI_pos (by omega)) ⟨pk_in w 8 hw, zk_push r.length (zk_df l (J w)) (t + 1) rfl ?_ (nI_1 t) (by omega) (zk_df_lt _ hl) (by omega) (nm_r (nI_1 k) (ih (k + 1) B ((zk_df l (J w), t + 1) :: r) _ _ _ _ _ _ _ _ _ _ (by omega) hK (zk_St_add hr _ _ (zk_df_lt _ hl) (by omega) (by omega) (by omega)) hB1 hB2 ?_ ?_))⟩
            · rw [nI_clamp (by omega), hK w hw, zk_diff _ hl]
            · rcases hAt' with e | e | ⟨q, hq, e⟩
              · exact Or.inl e
              · refine Or.inr ⟨_, List.mem_cons_self, ?_⟩
                show t + 1 + zk_tm J (zk_df l (J w)) = m
                omega
              · exact Or.inr ⟨q, List.mem_cons_of_mem _ hq, e⟩
            · show zk_wt (zk_d (zk_df l (J w)).testBit) + zk_pot r + (k + 1) ≤ 511
              have := zk_wt_1 (show zk_d (zk_df l (J w)).testBit < zk_d l.testBit by omega)
              omega
      exact zk_wn1 rfl hG hK hl (busy (-1) (Or.inl rfl)) (fun w hw sw h1 => busy (nI w) (Or.inr ⟨w, hw, rfl, sw, h1⟩))
theorem zk_solve {post : Int32 → St1 → Prop} {J : Nat → Nat} {S : Nat} {p : Int32} {u : St1} (hp : p = nI S) (hG : zk_G J) (hS : S < 256) (hu : zk_U J u) (H : ∀ u', zk_U J u' → post (nI (zk_tm J S)) u') : wpX_solve post u p := by
  obtain ⟨f0, a1, a2, a3, a4, a5, a6, a7, a8, a9, a10⟩ := u
  subst hp
  unfold wpX_solve
  dsimp only
  have d8 := zk_d_8 S.testBit
  have td : zk_tm J S ≤ zk_d S.testBit := zk_tau_d _ _
  refine zk_push 0 S 0 rfl rfl rfl (by omega) hS (by omega) ⟨513, zk_s16_step hG H 513 0 100 [(S, 0)] _ _ _ _ _ _ _ _ _ _ (by omega) hu (zk_St_add (r := []) trivial S 0 hS (by show _ + 0 ≤ 8; omega) (by omega) (by omega)) (by omega) (by omega) (Or.inr ⟨_, List.mem_cons_self, ?_⟩) ?_⟩
  · show 0 + zk_tm J S = zk_tm J S
    omega
  · show zk_wt (zk_d S.testBit) + 0 + 0 ≤ 511
    have := zk_wt_mono d8
    have e : zk_wt 8 = 511 := by decide
    omega
theorem zk_al_255 : ∀ i, i < 8 → (255 : Nat).testBit i = zk_al i := fun i hi => zk_255 hi
theorem zk_tm_255 (J : Nat → Nat) : zk_tm J 255 = zk_tau (zk_g J) zk_al := zk_tau_eq zk_al_255
theorem zk_least {post : Int32 → St1 → Prop} {J : Nat → Nat} {u : St1} (hG : zk_G J) (hu : zk_U J u) (H : ∀ u', zk_U J u' → post (nI (zk_tau (zk_g J) zk_al)) u') : wpX_least post u := by
  obtain ⟨f0, a1, a2, a3, a4, a5, a6, a7, a8, a9, a10⟩ := u
  unfold wpX_least
  dsimp only
  refine zk_solve (S := 255) rfl hG (by omega) hu (fun u' hu' => ?_)
  rw [zk_tm_255]
  exact H _ hu'
end
section
/-! forced, leastCover, always, never, leastWith -/
def zk_fr (g : Nat → Nat → Bool) (I O : Nat → Bool) (r : Int32) : Prop := (r = -1 ∧ ∀ C, ¬ zk_fc g I O C) ∨ ∃ n, n ≤ 8 ∧ r = nI n ∧ (∃ C, zk_fc g I O C ∧ zk_d C = n) ∧ ∀ C, zk_fc g I O C → n ≤ zk_d C
theorem zk_forced {post : Int32 → St1 → Prop} {J : Nat → Nat} {I O : Nat} {p0 p1 : Int32} {u : St1} (hp0 : p0 = nI I) (hp1 : p1 = nI O) (hI : I < 256) (hO : O < 256) (hG : zk_G J) (hu : zk_U J u) (H : ∀ r u', zk_U J u' → zk_fr (zk_g J) I.testBit O.testBit r → post r u') : wpX_forced post u p0 p1 := by
  obtain ⟨f0, a1, a2, a3, a4, a5, a6, a7, a8, a9, a10⟩ := u
  subst hp0 hp1
  unfold wpX_forced
  dsimp only
  refine zk_an rfl hG hu hO (fun N hN hb => nm_r (zk_or I N) ?_)
  have hM : I ||| N < 256 := zk_or_lt hI hN
  have mb : ∀ w, w < 8 → ((I ||| N).testBit w = true ↔ I.testBit w = true ∨ ∃ v, v < 8 ∧ O.testBit v = true ∧ zk_g J v w = true) := fun w hw => by
    rw [Nat.testBit_or, Bool.or_eq_true, hb w hw]
  refine zk_if0 ((I ||| N) &&& O) (zk_and _ _) (zk_and_lt O hM) (fun z => ?_) (fun z => ?_)
  · have hD : ∀ i, i < 8 → (I ||| N).testBit i = true → O.testBit i = false := fun i hi mi => zk_nt (fun oi => by
      have q := z i hi
      rw [Nat.testBit_and, mi, oi] at q
      exact Bool.noConfusion q)
    refine zk_ones (I ||| N) rfl hM ?_
    have h1 : zk_df 255 (I ||| N) < 256 := zk_df_lt _ (by omega)
    have tb : ∀ i, i < 8 → ((zk_df (zk_df 255 (I ||| N)) O).testBit i = true ↔ (I ||| N).testBit i = false ∧ O.testBit i = false) := fun i hi => by
      rw [zk_df_b hi, zk_df_b hi, zk_255 hi]
      cases (I ||| N).testBit i <;> cases O.testBit i <;> decide
    refine zk_solve (S := zk_df (zk_df 255 (I ||| N)) O) ?_ hG (zk_df_lt _ h1) hu (fun u' hu' => ?_)
    · rw [show (255 : Int32) = nI 255 from rfl, zk_diff _ (by omega), zk_diff _ h1]
    · obtain ⟨b0, b1, b2, b3, b4, b5, b6, b7, b8, b9, b10⟩ := u'
      have ex := zk_fc_ex hG.2.1 (I := I.testBit) (O := O.testBit) (M := (I ||| N).testBit) (T := (zk_df (zk_df 255 (I ||| N)) O).testBit) (fun w hw z => (mb w hw).mpr (Or.inl z)) (fun v w hv hw ov gv => (mb w hw).mpr (Or.inr ⟨v, hv, ov, gv⟩)) hD (fun i hi z => (tb i hi).mp z) (fun i hi z1 z2 => (tb i hi).mpr ⟨z1, z2⟩)
      obtain ⟨C, hc, e⟩ := ex
      have d8 := zk_d_8 C
      rw [e] at d8
      dsimp only
      rw [nI_add]
      exact H _ _ hu' (Or.inr ⟨_, d8, rfl, ⟨C, hc, e⟩, fun C' hc' => zk_fc_le (fun w hw z => (mb w hw).mp z) (fun i hi z => (tb i hi).mp z) hc'⟩)
  · obtain ⟨i, hi, z⟩ := z
    have z2 : (I ||| N).testBit i = true ∧ O.testBit i = true := by
      rw [Nat.testBit_and, Bool.and_eq_true] at z
      exact z
    exact H _ _ hu (Or.inl ⟨rfl, zk_fc_no (fun w hw z => (mb w hw).mp z) hi z2.1 z2.2⟩)
theorem zk_nm1 {n : Nat} (h : n < 2 ^ 31) : (-1 : Int32) ≠ nI n := fun e => nI_pos h (by rw [← e]; decide)
theorem zk_fr_goal {g : Nat → Nat → Bool} {I O : Nat → Bool} {r : Int32} (h : zk_fr g I O r) : r = nI (zk_tau g zk_al) ↔ ∃ C, zk_fc g I O C ∧ zk_d C = zk_tau g zk_al := by
  have t8 : zk_tau g zk_al ≤ 8 := Nat.le_trans (zk_tau_d _ _) (zk_d_8 _)
  constructor
  · intro e
    rcases h with ⟨e1, _⟩ | ⟨n, hn, e1, ⟨C, hc, ec⟩, _⟩
    · rw [e1] at e
      exact absurd e (zk_nm1 (by omega))
    · rw [e1] at e
      have := (nI_eq (by omega) (by omega)).mp e
      exact ⟨C, hc, by omega⟩
  · rintro ⟨C, hc, ec⟩
    rcases h with ⟨_, z⟩ | ⟨n, hn, e1, ⟨C', hc', ec'⟩, hmin⟩
    · exact absurd hc (z C)
    · have l1 := hmin C hc
      have l2 := zk_tau_le hc'.1
      rw [e1]
      exact congrArg nI (by omega)
/-- a result is below 0 or above the least unless it is the least -/
theorem zk_fr_cmp {g : Nat → Nat → Bool} {I O : Nat → Bool} {r : Int32} (h : zk_fr g I O r) : r = -1 ∨ ∃ n, n ≤ 8 ∧ r = nI n ∧ zk_tau g zk_al ≤ n := by
  rcases h with ⟨e, _⟩ | ⟨n, hn, e, ⟨C, hc, ec⟩, _⟩
  · exact Or.inl e
  · refine Or.inr ⟨n, hn, e, ?_⟩
    rw [← ec]
    exact zk_tau_le hc.1
theorem zk_or_b (I : Nat) {v i : Nat} : (I ||| 2 ^ v).testBit i = true ↔ I.testBit i = true ∨ i = v := by
  rw [Nat.testBit_or, Bool.or_eq_true, zk_pw_b, zk_1_t]
theorem zk_lc13 {post : Int32 → St1 → Prop} {J : Nat → Nat} (hG : zk_G J) (H : ∀ I u', I < 256 → zk_cov (zk_g J) zk_al I.testBit → zk_d I.testBit = zk_tau (zk_g J) zk_al → zk_U J u' → post (nI I) u') : ∀ (n i I O : Nat) (f0 : Int32) (a1 a2 a3 a4 a5 a6 a7 a8 a9 a10 : Nat → Int32), i ≤ 8 → i < n → I < 256 → O < 256 → zk_K J a1 → (∀ v, v < 8 → i ≤ v → I.testBit v = true ∨ O.testBit v = true) → (∃ C, zk_fc (zk_g J) I.testBit O.testBit C ∧ zk_d C = zk_tau (zk_g J) zk_al) → wX_leastCover_13 post (nI (zk_tau (zk_g J) zk_al)) n (nI I) (nI O) (nI i + (-1)) f0 a1 a2 a3 a4 a5 a6 a7 a8 a9 a10 := by
  intro n
  induction n with
  | zero =>
    intro i I O f0 a1 a2 a3 a4 a5 a6 a7 a8 a9 a10 _ h
    omega
  | succ n ih =>
    intro i I O f0 a1 a2 a3 a4 a5 a6 a7 a8 a9 a10 hi hn hI hO hK hall hex
    cases i with
    | zero =>
      refine br_t (by decide) ?_
      obtain ⟨C, ⟨hc, hci, hco⟩, ec⟩ := hex
      have eq : ∀ v, v < 8 → I.testBit v = C v := fun v hv => by
        rcases hall v hv (Nat.zero_le _) with z | z
        · rw [z, hci v hv z]
        · rw [hco v hv z]
          exact zk_nt (fun q => zk_tf (hci v hv q) (hco v hv z))
      refine H I _ hI (fun a b ha hb _ _ gab => ?_) ?_ hK
      · rw [eq a ha, eq b hb]
        exact hc a b ha hb rfl rfl gab
      · rw [zk_d_eq eq]
        exact ec
    | succ v =>
      rw [pk_m1]
      have hv : v < 8 := by omega
      refine br_f (nI_pos (by omega)) ?_
      have hO' : O ||| 2 ^ v < 256 := zk_or_lt hO (zk_pw v hv)
      refine zk_forced (I := I) (O := O ||| 2 ^ v) rfl (by rw [zk_sh1 v hv, zk_or]) hI hO' hG hK (fun r u' hu' hr => ?_)
      obtain ⟨b0, b1, b2, b3, b4, b5, b6, b7, b8, b9, b10⟩ := u'
      refine br_c (fun e => nm_r (e' := nI (O ||| 2 ^ v)) (by rw [zk_sh1 v hv, zk_or]) (nm_e (ih v I (O ||| 2 ^ v) _ _ _ _ _ _ _ _ _ _ _ (by omega) (by omega) hI hO' hu' (fun x hx h => ?_) ((zk_fr_goal hr).mp e)))) (fun e => nm_r (e' := nI (I ||| 2 ^ v)) (by rw [zk_sh1 v hv, zk_or]) (nm_e (ih v (I ||| 2 ^ v) O _ _ _ _ _ _ _ _ _ _ _ (by omega) (by omega) (zk_or_lt hI (zk_pw v hv)) hO hu' (fun x hx h => ?_) ?_)))
      · by_cases c : x = v
        · exact Or.inr ((zk_or_b O).mpr (Or.inr c))
        · rcases hall x hx (by omega) with z | z
          · exact Or.inl z
          · exact Or.inr ((zk_or_b O).mpr (Or.inl z))
      · by_cases c : x = v
        · exact Or.inl ((zk_or_b I).mpr (Or.inr c))
        · rcases hall x hx (by omega) with z | z
          · exact Or.inl ((zk_or_b I).mpr (Or.inl z))
          · exact Or.inr z
      · obtain ⟨C, ⟨hc, hci, hco⟩, ec⟩ := hex
        refine ⟨C, ⟨hc, fun x hx z => ?_, hco⟩, ec⟩
        rcases (zk_or_b I).mp z with z | z
        · exact hci x hx z
        · rw [z]
          refine zk_nf (fun q => e ((zk_fr_goal hr).mpr ⟨C, ⟨hc, hci, fun y hy z => ?_⟩, ec⟩))
          rcases (zk_or_b O).mp z with z | z
          · exact hco y hy z
          · rw [z]
            exact q
theorem zk_leastCover {post : Int32 → St1 → Prop} {J : Nat → Nat} {u : St1} (hG : zk_G J) (hu : zk_U J u) (H : ∀ I u', I < 256 → zk_cov (zk_g J) zk_al I.testBit → zk_d I.testBit = zk_tau (zk_g J) zk_al → zk_U J u' → post (nI I) u') : wpX_leastCover post u := by
  obtain ⟨f0, a1, a2, a3, a4, a5, a6, a7, a8, a9, a10⟩ := u
  unfold wpX_leastCover
  dsimp only
  refine zk_least hG hu (fun u' hu' => ?_)
  obtain ⟨b0, b1, b2, b3, b4, b5, b6, b7, b8, b9, b10⟩ := u'
  refine ⟨9, zk_lc13 hG H 9 8 0 0 _ _ _ _ _ _ _ _ _ _ _ (by omega) (by omega) (by omega) (by omega) hu' (fun v hv h => absurd h (by omega)) ?_⟩
  obtain ⟨C, hc, e⟩ := zk_tau_ex (zk_g J) zk_al
  refine ⟨C, ⟨hc, fun i _ z => ?_, fun i _ z => ?_⟩, e⟩
  · rw [Nat.zero_testBit] at z
    exact Bool.noConfusion z
  · rw [Nat.zero_testBit] at z
    exact Bool.noConfusion z
/-- some least cover has all of I and none of O -/
def zk_some (J : Nat → Nat) (I O : Nat) : Prop := ∃ C, zk_fc (zk_g J) I.testBit O.testBit C ∧ zk_d C = zk_tau (zk_g J) zk_al
theorem zk_set_bit {A : Nat → Bool} {B i : Nat} {P : Nat → Prop} (h1 : ∀ v, v < i → (A v = true ↔ P v)) (h2 : ∀ v, v < 8 → i ≤ v → A v = false) (hB : ∀ v, B.testBit v = true ↔ A v = true ∨ v = i) (hP : P i) : (∀ v, v < i + 1 → (B.testBit v = true ↔ P v)) ∧ (∀ v, v < 8 → i + 1 ≤ v → B.testBit v = false) := by
  constructor
  · intro v hv
    rw [hB]
    by_cases c : v = i
    · subst c
      exact ⟨fun _ => hP, fun _ => Or.inr rfl⟩
    · rw [← h1 v (by omega)]
      exact ⟨fun z => z.elim id (fun q => absurd q c), Or.inl⟩
  · intro v hv h
    refine zk_nt (fun z => ?_)
    rcases (hB v).mp z with q | q
    · exact zk_tf q (h2 v hv (by omega))
    · omega
theorem zk_set_no {A : Nat → Bool} {i : Nat} {P : Nat → Prop} (hi : i < 8) (h1 : ∀ v, v < i → (A v = true ↔ P v)) (h2 : ∀ v, v < 8 → i ≤ v → A v = false) (hP : ¬ P i) : (∀ v, v < i + 1 → (A v = true ↔ P v)) ∧ (∀ v, v < 8 → i + 1 ≤ v → A v = false) := by
  refine ⟨fun v hv => ?_, fun v hv h => h2 v hv (by omega)⟩
  by_cases c : v = i
  · subst c
    exact ⟨fun z => (zk_tf z (h2 v hi (Nat.le_refl _))).elim, fun z => absurd z hP⟩
  · exact h1 v (by omega)
theorem zk_aw9 {post : Int32 → St1 → Prop} {J : Nat → Nat} (hG : zk_G J) (H : ∀ A u', A < 256 → (∀ v, v < 8 → (A.testBit v = true ↔ ¬ zk_some J 0 (2 ^ v))) → zk_U J u' → post (nI A) u') : ∀ (n i A : Nat) (f0 : Int32) (a1 a2 a3 a4 a5 a6 a7 a8 a9 a10 : Nat → Int32), i ≤ 8 → 8 - i < n → A < 256 → zk_K J a1 → (∀ v, v < i → (A.testBit v = true ↔ ¬ zk_some J 0 (2 ^ v))) → (∀ v, v < 8 → i ≤ v → A.testBit v = false) → wX_always_9 post (nI (zk_tau (zk_g J) zk_al)) n (nI A) (nI i) f0 a1 a2 a3 a4 a5 a6 a7 a8 a9 a10 := by
  intro n
  induction n with
  | zero =>
    intro i A f0 a1 a2 a3 a4 a5 a6 a7 a8 a9 a10 _ h
    omega
  | succ n ih =>
    intro i A f0 a1 a2 a3 a4 a5 a6 a7 a8 a9 a10 hi hn hA hK h1 h2
    refine pk_le 8 i (fun z => ?_) (fun z => ?_)
    · have e : i = 8 := by omega
      subst e
      exact H A _ hA h1 hK
    · refine zk_forced (I := 0) (O := 2 ^ i) rfl (zk_sh1 i z) (by omega) (zk_pw i z) hG hK (fun r u' hu' hr => ?_)
      obtain ⟨b0, b1, b2, b3, b4, b5, b6, b7, b8, b9, b10⟩ := u'
      refine br_c (fun e => ?_) (fun e => ?_)
      · obtain ⟨q1, q2⟩ := zk_set_no z h1 h2 (fun q => q ((zk_fr_goal hr).mp e))
        exact nm_r (e' := nI A) (by rw [← nI_0, zk_or, Nat.or_zero]) (nm_r (nI_1 i) (ih (i + 1) A _ _ _ _ _ _ _ _ _ _ _ (by omega) (by omega) hA hu' q1 q2))
      · obtain ⟨q1, q2⟩ := zk_set_bit h1 h2 (fun v => zk_or_b A) (fun q => e ((zk_fr_goal hr).mpr q))
        exact nm_r (e' := nI (A ||| 2 ^ i)) (by rw [zk_sh1 i z, zk_or]) (nm_r (nI_1 i) (ih (i + 1) (A ||| 2 ^ i) _ _ _ _ _ _ _ _ _ _ _ (by omega) (by omega) (zk_or_lt hA (zk_pw i z)) hu' q1 q2))
theorem zk_always {post : Int32 → St1 → Prop} {J : Nat → Nat} {u : St1} (hG : zk_G J) (hu : zk_U J u) (H : ∀ A u', A < 256 → (∀ v, v < 8 → (A.testBit v = true ↔ ¬ zk_some J 0 (2 ^ v))) → zk_U J u' → post (nI A) u') : wpX_always post u := by
  obtain ⟨f0, a1, a2, a3, a4, a5, a6, a7, a8, a9, a10⟩ := u
  unfold wpX_always
  dsimp only
  refine zk_least hG hu (fun u' hu' => ?_)
  obtain ⟨b0, b1, b2, b3, b4, b5, b6, b7, b8, b9, b10⟩ := u'
  exact ⟨9, zk_aw9 hG H 9 0 0 _ _ _ _ _ _ _ _ _ _ _ (by omega) (by omega) (by omega) hu' (fun v hv => absurd hv (by omega)) (fun v _ _ => Nat.zero_testBit v)⟩
theorem zk_nv9 {post : Int32 → St1 → Prop} {J : Nat → Nat} (hG : zk_G J) (H : ∀ A u', A < 256 → (∀ v, v < 8 → (A.testBit v = true ↔ ¬ zk_some J (2 ^ v) 0)) → zk_U J u' → post (nI A) u') : ∀ (n i A : Nat) (f0 : Int32) (a1 a2 a3 a4 a5 a6 a7 a8 a9 a10 : Nat → Int32), i ≤ 8 → 8 - i < n → A < 256 → zk_K J a1 → (∀ v, v < i → (A.testBit v = true ↔ ¬ zk_some J (2 ^ v) 0)) → (∀ v, v < 8 → i ≤ v → A.testBit v = false) → wX_never_9 post (nI (zk_tau (zk_g J) zk_al)) n (nI A) (nI i) f0 a1 a2 a3 a4 a5 a6 a7 a8 a9 a10 := by
  intro n
  induction n with
  | zero =>
    intro i A f0 a1 a2 a3 a4 a5 a6 a7 a8 a9 a10 _ h
    omega
  | succ n ih =>
    intro i A f0 a1 a2 a3 a4 a5 a6 a7 a8 a9 a10 hi hn hA hK h1 h2
    refine pk_le 8 i (fun z => ?_) (fun z => ?_)
    · have e : i = 8 := by omega
      subst e
      exact H A _ hA h1 hK
    · refine zk_forced (I := 2 ^ i) (O := 0) (zk_sh1 i z) rfl (zk_pw i z) (by omega) hG hK (fun r u' hu' hr => ?_)
      obtain ⟨b0, b1, b2, b3, b4, b5, b6, b7, b8, b9, b10⟩ := u'
      refine br_c (fun e => ?_) (fun e => ?_)
      · obtain ⟨q1, q2⟩ := zk_set_no z h1 h2 (fun q => q ((zk_fr_goal hr).mp e))
        exact nm_r (e' := nI A) (by rw [← nI_0, zk_or, Nat.or_zero]) (nm_r (nI_1 i) (ih (i + 1) A _ _ _ _ _ _ _ _ _ _ _ (by omega) (by omega) hA hu' q1 q2))
      · obtain ⟨q1, q2⟩ := zk_set_bit h1 h2 (fun v => zk_or_b A) (fun q => e ((zk_fr_goal hr).mpr q))
        exact nm_r (e' := nI (A ||| 2 ^ i)) (by rw [zk_sh1 i z, zk_or]) (nm_r (nI_1 i) (ih (i + 1) (A ||| 2 ^ i) _ _ _ _ _ _ _ _ _ _ _ (by omega) (by omega) (zk_or_lt hA (zk_pw i z)) hu' q1 q2))
theorem zk_never {post : Int32 → St1 → Prop} {J : Nat → Nat} {u : St1} (hG : zk_G J) (hu : zk_U J u) (H : ∀ A u', A < 256 → (∀ v, v < 8 → (A.testBit v = true ↔ ¬ zk_some J (2 ^ v) 0)) → zk_U J u' → post (nI A) u') : wpX_never post u := by
  obtain ⟨f0, a1, a2, a3, a4, a5, a6, a7, a8, a9, a10⟩ := u
  unfold wpX_never
  dsimp only
  refine zk_least hG hu (fun u' hu' => ?_)
  obtain ⟨b0, b1, b2, b3, b4, b5, b6, b7, b8, b9, b10⟩ := u'
  exact ⟨9, zk_nv9 hG H 9 0 0 _ _ _ _ _ _ _ _ _ _ _ (by omega) (by omega) (by omega) hu' (fun v hv => absurd hv (by omega)) (fun v _ _ => Nat.zero_testBit v)⟩
theorem zk_leastWith {post : Int32 → St1 → Prop} {J : Nat → Nat} {I O : Nat} {p0 p1 : Int32} {u : St1} (hp0 : p0 = nI I) (hp1 : p1 = nI O) (hI : I < 256) (hO : O < 256) (hG : zk_G J) (hu : zk_U J u) (H : ∀ r u', zk_U J u' → zk_fr (zk_g J) I.testBit O.testBit r → post r u') : wpX_leastWith post u p0 p1 := by
  obtain ⟨f0, a1, a2, a3, a4, a5, a6, a7, a8, a9, a10⟩ := u
  subst hp0 hp1
  unfold wpX_leastWith
  dsimp only
  exact pk_lt I 0 (fun z => absurd z (by omega)) (fun _ => pk_lt 255 I (fun z => absurd z (by omega)) (fun _ => pk_lt O 0 (fun z => absurd z (by omega)) (fun _ => pk_le O 255 (fun _ => zk_forced rfl rfl hI hO hG hu (fun r u' hu' hr => H r u' hu' hr)) (fun z => absurd z (by omega)))))
end
section
/-! matchings: m w is w's partner, 8 or more for none -/
def zk_en (x : Nat) : Int32 := if x < 8 then nI x else -1
theorem zk_en_lt {x : Nat} (h : x < 8) : zk_en x = nI x := if_pos h
theorem zk_en_ge {x : Nat} (h : ¬ x < 8) : zk_en x = -1 := if_neg h
theorem zk_en_eq {x y : Nat} (hy : y < 8) (h : zk_en x = nI y) : x = y := by
  by_cases c : x < 8
  · rw [zk_en_lt c] at h
    exact (nI_eq (by omega) (by omega)).mp h
  · rw [zk_en_ge c] at h
    exact absurd h (zk_nm1 (by omega))
def zk_up (f : Nat → Nat) (k x : Nat) : Nat → Nat := fun i => if i = k then x else f i
theorem zk_up_s {f : Nat → Nat} {k x : Nat} : zk_up f k x k = x := if_pos rfl
theorem zk_up_n {f : Nat → Nat} {k x i : Nat} (h : i ≠ k) : zk_up f k x i = f i := if_neg h
theorem zk_up_en {a : Nat → Int32} {m : Nat → Nat} {w x : Nat} (h : ∀ i, i < 8 → a i = zk_en (m i)) (hx : x < 8) : ∀ i, i < 8 → upd a w (nI x) i = zk_en (zk_up m w x i) := by
  intro i hi
  by_cases c : i = w
  · rw [c, pk_us, zk_up_s, zk_en_lt hx]
  · rw [pk_un c, zk_up_n c]
    exact h i hi
/-- a matching of pairs (m x, x) within P and R, and a set Q of matched right copies that with the partners outside covers P's pairs -/
def zk_MI (g : Nat → Nat → Bool) (R : Nat → Bool) (P : Nat → Prop) (m : Nat → Nat) (Q : Nat → Bool) : Prop :=
  (∀ x, x < 8 → m x < 8 → g (m x) x = true ∧ R x = true ∧ P (m x)) ∧ (∀ x y, x < 8 → y < 8 → m x < 8 → m x = m y → x = y) ∧ (∀ x, x < 8 → Q x = true → m x < 8) ∧ (∀ u w, u < 8 → w < 8 → P u → R w = true → g u w = true → Q w = true ∨ ∃ x, x < 8 ∧ m x = u ∧ Q x = false)
/-- what the search has found: seen s, line l of e, from c -/
def zk_B (g : Nat → Nat → Bool) (R : Nat → Bool) (m : Nat → Nat) (v : Nat) (s : Nat → Bool) (e : Nat) (l c : Nat → Nat) : Prop :=
  l 0 = v ∧ (∀ i, i < e → l i < 8) ∧ (∀ w, w < 8 → s w = true → R w = true ∧ m w < 8 ∧ g (c w) w = true ∧ ∃ i, 1 ≤ i ∧ i < e ∧ l i = m w ∧ ∃ j, j < i ∧ c w = l j) ∧ (∀ i, 1 ≤ i → i < e → ∃ w, w < 8 ∧ s w = true ∧ l i = m w) ∧ e = zk_d s + 1 ∧ (∀ i j, i < e → j < e → l i = l j → i = j)
/-- mt with a hole at w, whose new partner is l j -/
def zk_H (g : Nat → Nat → Bool) (R : Nat → Bool) (m : Nat → Nat) (Q s : Nat → Bool) (l c : Nat → Nat) (w0 : Nat) (mt : Nat → Nat) (w j : Nat) : Prop :=
  (∀ x, x < 8 → x ≠ w → mt x < 8 → g (mt x) x = true ∧ R x = true) ∧ (∀ x y, x < 8 → y < 8 → x ≠ w → y ≠ w → mt x < 8 → mt x = mt y → x = y) ∧ (∀ x, x < 8 → x ≠ w → (mt x < 8 ↔ m x < 8 ∨ x = w0)) ∧ (w < 8 ∧ (m w < 8 ∨ w = w0)) ∧
  (∀ u, u < 8 → ((∃ x, x < 8 ∧ x ≠ w ∧ mt x = u) ↔ ∃ x, x < 8 ∧ m x = u)) ∧ (∀ x i, x < 8 → s x = true → i ≤ j → m x = l i → mt x = m x ∧ x ≠ w) ∧ (∀ i, i ≤ j → mt w ≠ l i) ∧ (c w = l j ∧ g (l j) w = true ∧ R w = true) ∧ Q w = false ∧ (∀ x, x < 8 → x ≠ w → Q x = true → mt x = m x)
/-- one step along the chain -/
theorem zk_H_step {g : Nat → Nat → Bool} {R : Nat → Bool} {P : Nat → Prop} {m : Nat → Nat} {Q s : Nat → Bool} {l c : Nat → Nat} {v w0 e : Nat} {mt : Nat → Nat} {w j : Nat} (hM : zk_MI g R P m Q) (hB : zk_B g R m v s e l c) (hH : zk_H g R m Q s l c w0 mt w j) (hj : 1 ≤ j) (hje : j < e) :
    ∃ w' j', w' < 8 ∧ s w' = true ∧ w' ≠ w ∧ mt w' = l j ∧ (∀ x, x < 8 → mt x = l j → x = w') ∧ j' < j ∧ zk_H g R m Q s l c w0 (zk_up mt w (l j)) w' j' := by
  obtain ⟨M1, M2, M3, M4⟩ := hM
  obtain ⟨B1, B2, B3, B4, B5, B6⟩ := hB
  obtain ⟨H1, H2, H3, ⟨H3a, H3b⟩, H4, H5, H6, ⟨H7a, H7b, H7c⟩, H8, H9⟩ := hH
  have lj8 := B2 j hje
  obtain ⟨w', hw', sw', ew'⟩ := B4 j hj hje
  obtain ⟨f1, f2⟩ := H5 w' j hw' sw' (Nat.le_refl _) ew'.symm
  have mtw' : mt w' = l j := by rw [f1, ew']
  obtain ⟨r1, r2, r3, i, i1, i2, i3, j', j1, j2⟩ := B3 w' hw' sw'
  have ij : i = j := B6 i j i2 hje (by rw [i3, ew'])
  subst ij
  have uq : ∀ x, x < 8 → mt x = l i → x = w' := fun x hx ex => by
    by_cases cx : x = w
    · rw [cx] at ex
      exact absurd ex (H6 i (Nat.le_refl _))
    · exact H2 x w' hx hw' cx f2 (by rw [ex]; exact lj8) (by rw [ex, mtw'])
  refine ⟨w', j', hw', sw', f2, mtw', uq, j1, ?_⟩
  have up : ∀ x, x ≠ w → zk_up mt w (l i) x = mt x := fun x hx => zk_up_n hx
  have us : zk_up mt w (l i) w = l i := zk_up_s
  refine ⟨fun x hx nx h => ?_, fun x y hx hy nx ny h e => ?_, fun x hx nx => ?_, ⟨hw', Or.inl r2⟩, fun u hu => ⟨?_, ?_⟩, fun x i' hx sx hi' ex => ?_, fun i' hi' ex => ?_, ⟨j2, by rw [← j2]; exact r3, r1⟩, ?_, fun x hx nx qx => ?_⟩
  · by_cases cx : x = w
    · subst cx
      rw [us]
      exact ⟨H7b, H7c⟩
    · rw [up x cx] at h ⊢
      exact H1 x hx cx h
  · by_cases cx : x = w
    · by_cases cy : y = w
      · rw [cx, cy]
      · rw [cx, us, up y cy] at e
        exact absurd (uq y hy e.symm) ny
    · by_cases cy : y = w
      · rw [cy, us, up x cx] at e
        exact absurd (uq x hx e) nx
      · rw [up x cx] at h e
        rw [up y cy] at e
        exact H2 x y hx hy cx cy h e
  · by_cases cx : x = w
    · subst cx
      rw [us]
      exact ⟨fun _ => H3b, fun _ => lj8⟩
    · rw [up x cx]
      exact H3 x hx cx
  · rintro ⟨x, hx, nx, ex⟩
    by_cases cx : x = w
    · rw [cx, us] at ex
      exact ⟨w', hw', by rw [← ew', ex]⟩
    · rw [up x cx] at ex
      exact (H4 u hu).mp ⟨x, hx, cx, ex⟩
  · intro h
    obtain ⟨x, hx, nx, ex⟩ := (H4 u hu).mpr h
    by_cases cx : x = w'
    · refine ⟨w, H3a, fun z => f2 z.symm, ?_⟩
      rw [us, ← ex, cx, mtw']
    · exact ⟨x, hx, cx, by rw [up x nx]; exact ex⟩
  · obtain ⟨q1, q2⟩ := H5 x i' hx sx (by omega) ex
    refine ⟨by rw [up x q2]; exact q1, fun cx => ?_⟩
    rw [cx, ← ew'] at ex
    have := B6 i i' hje (by omega) ex
    omega
  · rw [up w' f2, mtw'] at ex
    have := B6 i i' hje (by omega) ex
    omega
  · obtain ⟨p1, p2, p3⟩ := M1 w' hw' r2
    rw [← ew'] at p3
    rcases M4 (l i) w lj8 H3a p3 H7c H7b with q | ⟨x, hx, ex, qx⟩
    · exact (zk_tf q H8).elim
    · have : x = w' := M2 x w' hx hw' (by rw [ex]; exact lj8) (by rw [ex, ew'])
      rw [← this]
      exact qx
  · by_cases cx : x = w
    · subst cx
      exact (zk_tf qx H8).elim
    · rw [up x cx]
      exact H9 x hx cx qx
/-- the last step: v gets the hole -/
theorem zk_H_end {g : Nat → Nat → Bool} {R : Nat → Bool} {P : Nat → Prop} {m : Nat → Nat} {Q s : Nat → Bool} {l c : Nat → Nat} {v w0 : Nat} {mt : Nat → Nat} {w : Nat} (hv : v < 8) (hM : zk_MI g R P m Q) (hf : ∀ x, x < 8 → m x ≠ v) (l0 : l 0 = v) (hH : zk_H g R m Q s l c w0 mt w 0) :
    zk_MI g R (fun u => P u ∨ u = v) (zk_up mt w v) Q ∧ ∀ x, x < 8 → (zk_up mt w v x < 8 ↔ m x < 8 ∨ x = w0) := by
  obtain ⟨M1, M2, M3, M4⟩ := hM
  obtain ⟨H1, H2, H3, ⟨H3a, H3b⟩, H4, H5, H6, ⟨H7a, H7b, H7c⟩, H8, H9⟩ := hH
  rw [l0] at H7b
  have up : ∀ x, x ≠ w → zk_up mt w v x = mt x := fun x hx => zk_up_n hx
  have us : zk_up mt w v w = v := zk_up_s
  have nv : ∀ x, x < 8 → x ≠ w → mt x ≠ v := fun x hx nx ex => by
    obtain ⟨y, hy, ey⟩ := (H4 v hv).mp ⟨x, hx, nx, ex⟩
    exact hf y hy ey
  have dm : ∀ x, x < 8 → (zk_up mt w v x < 8 ↔ m x < 8 ∨ x = w0) := fun x hx => by
    by_cases cx : x = w
    · subst cx
      rw [us]
      exact ⟨fun _ => H3b, fun _ => hv⟩
    · rw [up x cx]
      exact H3 x hx cx
  refine ⟨⟨fun x hx h => ?_, fun x y hx hy h e => ?_, fun x hx qx => (dm x hx).mpr (Or.inl (M3 x hx qx)), fun u w1 hu hw1 pu rw1 guw => ?_⟩, dm⟩
  · by_cases cx : x = w
    · subst cx
      rw [us]
      exact ⟨H7b, H7c, Or.inr rfl⟩
    · rw [up x cx] at h ⊢
      obtain ⟨q1, q2⟩ := H1 x hx cx h
      obtain ⟨y, hy, ey⟩ := (H4 (mt x) h).mp ⟨x, hx, cx, rfl⟩
      refine ⟨q1, q2, Or.inl ?_⟩
      rw [← ey]
      exact (M1 y hy (by rw [ey]; exact h)).2.2
  · by_cases cx : x = w
    · by_cases cy : y = w
      · rw [cx, cy]
      · rw [cx, us, up y cy] at e
        exact absurd e.symm (nv y hy cy)
    · by_cases cy : y = w
      · rw [cy, us, up x cx] at e
        exact absurd e (nv x hx cx)
      · rw [up x cx] at h e
        rw [up y cy] at e
        exact H2 x y hx hy cx cy h e
  · by_cases cu : u = v
    · exact Or.inr ⟨w, H3a, by rw [us, cu], H8⟩
    · have pu' : P u := pu.elim id (fun z => absurd z cu)
      rcases M4 u w1 hu hw1 pu' rw1 guw with q | ⟨y, hy, ey, qy⟩
      · exact Or.inl q
      · obtain ⟨x, hx, nx, ex⟩ := (H4 u hu).mpr ⟨y, hy, ey⟩
        refine Or.inr ⟨x, hx, by rw [up x nx]; exact ex, zk_nt (fun qx => ?_)⟩
        have e2 := H9 x hx nx qx
        have : x = y := M2 x y hx hy (by rw [← e2, ex]; exact hu) (by rw [← e2, ex, ey])
        rw [this] at qx
        exact zk_tf qx qy
/-- where the chain begins -/
theorem zk_H_0 {g : Nat → Nat → Bool} {R : Nat → Bool} {P : Nat → Prop} {m : Nat → Nat} {Q s : Nat → Bool} {l c : Nat → Nat} {v e w0 k : Nat} (hM : zk_MI g R P m Q) (hB : zk_B g R m v s e l c) (hk : k < e) (hw : w0 < 8) (mw : ¬ m w0 < 8) (rw0 : R w0 = true) (gw : g (l k) w0 = true) : zk_H g R m Q s l (zk_up c w0 (l k)) w0 m w0 k := by
  obtain ⟨M1, M2, M3, M4⟩ := hM
  obtain ⟨B1, B2, B3, B4, B5, B6⟩ := hB
  refine ⟨fun x hx _ h => ⟨(M1 x hx h).1, (M1 x hx h).2.1⟩, fun x y hx hy _ _ h e => M2 x y hx hy h e, fun x hx nx => ⟨Or.inl, fun z => z.elim id (fun q => absurd q nx)⟩, ⟨hw, Or.inr rfl⟩, fun u hu => ⟨fun ⟨x, hx, _, ex⟩ => ⟨x, hx, ex⟩, fun ⟨x, hx, ex⟩ => ⟨x, hx, fun z => mw (by rw [← z, ex]; exact hu), ex⟩⟩, fun x i hx sx _ _ => ⟨rfl, fun z => mw (by rw [← z]; exact (B3 x hx sx).2.1)⟩, fun i hi z => mw (by rw [z]; exact B2 i (by omega)), ⟨zk_up_s, gw, rw0⟩, zk_nt (fun q => mw (M3 w0 hw q)), fun _ _ _ _ => rfl⟩
/-- B for another c that agrees on s -/
theorem zk_B_c {g : Nat → Nat → Bool} {R : Nat → Bool} {m : Nat → Nat} {v : Nat} {s : Nat → Bool} {e : Nat} {l c c' : Nat → Nat} (hB : zk_B g R m v s e l c) (h : ∀ w, w < 8 → s w = true → c' w = c w) : zk_B g R m v s e l c' := by
  obtain ⟨B1, B2, B3, B4, B5, B6⟩ := hB
  refine ⟨B1, B2, fun w hw sw => ?_, B4, B5, B6⟩
  rw [h w hw sw]
  exact B3 w hw sw
/-- one more seen: w, matched -/
theorem zk_B_add {g : Nat → Nat → Bool} {R : Nat → Bool} {P : Nat → Prop} {m : Nat → Nat} {Q : Nat → Bool} {v : Nat} {s s' : Nat → Bool} {e : Nat} {l c : Nat → Nat} (hM : zk_MI g R P m Q) (hf : ∀ x, x < 8 → m x ≠ v) (hB : zk_B g R m v s e l c) {w k : Nat} (hw : w < 8) (mw : m w < 8) (sw : s w = false) (rw0 : R w = true) (hk : k < e) (gw : g (l k) w = true) (hs : ∀ i, i < 8 → (s' i = true ↔ s i = true ∨ i = w)) : zk_B g R m v s' (e + 1) (zk_up l e (m w)) (zk_up c w (l k)) := by
  obtain ⟨M1, M2, M3, M4⟩ := hM
  obtain ⟨B1, B2, B3, B4, B5, B6⟩ := hB
  have lo : ∀ i, i < e → zk_up l e (m w) i = l i := fun i hi => zk_up_n (by omega)
  have ls : zk_up l e (m w) e = m w := zk_up_s
  have nl : ∀ i, i < e → l i ≠ m w := fun i hi ei => by
    by_cases c0 : i = 0
    · rw [c0, B1] at ei
      exact hf w hw ei.symm
    · obtain ⟨x, hx, sx, ex⟩ := B4 i (by omega) hi
      have : w = x := M2 w x hw hx mw (by rw [← ei, ex])
      rw [this] at sw
      exact zk_tf sx sw
  refine ⟨by rw [lo 0 (by omega)]; exact B1, fun i hi => ?_, fun x hx sx => ?_, fun i i1 hi => ?_, ?_, fun i j hi hj eij => ?_⟩
  · by_cases ci : i = e
    · rw [ci, ls]
      exact mw
    · rw [lo i (by omega)]
      exact B2 i (by omega)
  · by_cases cx : x = w
    · subst cx
      rw [zk_up_s]
      refine ⟨rw0, mw, gw, e, by omega, by omega, ls, k, hk, ?_⟩
      rw [lo k hk]
    · have sx' : s x = true := ((hs x hx).mp sx).elim id (fun z => absurd z cx)
      rw [zk_up_n cx]
      obtain ⟨q1, q2, q3, i, i1, i2, i3, j, j1, j2⟩ := B3 x hx sx'
      refine ⟨q1, q2, q3, i, i1, by omega, by rw [lo i i2]; exact i3, j, j1, ?_⟩
      rw [lo j (by omega)]
      exact j2
  · by_cases ci : i = e
    · exact ⟨w, hw, (hs w hw).mpr (Or.inr rfl), by rw [ci, ls]⟩
    · obtain ⟨x, hx, sx, ex⟩ := B4 i i1 (by omega)
      exact ⟨x, hx, (hs x hx).mpr (Or.inl sx), by rw [lo i (by omega)]; exact ex⟩
  · have d1 : zk_d s' = zk_d s + 1 := by
      rw [zk_d_del (A := s') hw ((hs w hw).mpr (Or.inr rfl))]
      refine congrArg (· + 1) (zk_d_eq (fun i hi => ?_))
      rcases zk_bc2 (s i) with q | q
      · rw [q]
        refine zk_m_t.mpr ⟨(hs i hi).mpr (Or.inl q), zk_1_f.mpr (fun z => ?_)⟩
        rw [z] at q
        exact zk_tf q sw
      · rw [q]
        refine zk_nt (fun z => ?_)
        obtain ⟨z1, z2⟩ := zk_m_t.mp z
        rcases (hs i hi).mp z1 with t | t
        · exact zk_tf t q
        · exact zk_1_f.mp z2 t
    omega
  · by_cases ci : i = e
    · by_cases cj : j = e
      · omega
      · rw [ci, ls, lo j (by omega)] at eij
        exact absurd eij.symm (nl j (by omega))
    · by_cases cj : j = e
      · rw [cj, ls, lo i (by omega)] at eij
        exact absurd eij (nl i (by omega))
      · rw [lo i (by omega), lo j (by omega)] at eij
        exact B6 i j (by omega) (by omega) eij
/-- nothing found: Q and all that was seen -/
theorem zk_B_fail {g : Nat → Nat → Bool} {R : Nat → Bool} {P : Nat → Prop} {m : Nat → Nat} {Q : Nat → Bool} {v : Nat} {s : Nat → Bool} {e : Nat} {l c : Nat → Nat} (hM : zk_MI g R P m Q) (hB : zk_B g R m v s e l c) (hc : ∀ i w, i < e → w < 8 → R w = true → g (l i) w = true → s w = true) : zk_MI g R (fun u => P u ∨ u = v) m (zk_o Q s) := by
  obtain ⟨M1, M2, M3, M4⟩ := hM
  obtain ⟨B1, B2, B3, B4, B5, B6⟩ := hB
  refine ⟨fun x hx h => ⟨(M1 x hx h).1, (M1 x hx h).2.1, Or.inl (M1 x hx h).2.2⟩, M2, fun x hx q => ?_, fun u w hu hw pu rw0 gw => ?_⟩
  · rcases zk_o_t.mp q with q | q
    · exact M3 x hx q
    · exact (B3 x hx q).2.1
  · by_cases cu : u = v
    · refine Or.inl (zk_o_t.mpr (Or.inr (hc 0 w (by omega) hw rw0 ?_)))
      rw [B1, ← cu]
      exact gw
    · have pu' : P u := pu.elim id (fun z => absurd z cu)
      rcases M4 u w hu hw pu' rw0 gw with q | ⟨x, hx, ex, qx⟩
      · exact Or.inl (zk_o_t.mpr (Or.inl q))
      · rcases zk_bc2 (s x) with sx | sx
        · obtain ⟨_, _, _, i, i1, i2, i3, _⟩ := B3 x hx sx
          refine Or.inl (zk_o_t.mpr (Or.inr (hc i w i2 hw rw0 ?_)))
          rw [i3, ex]
          exact gw
        · refine Or.inr ⟨x, hx, ex, ?_⟩
          unfold zk_o
          rw [qx, sx]
          rfl
end
section
/-! change, augment, match -/
theorem zk_ch5 {post : St1 → Prop} {g : Nat → Nat → Bool} {R : Nat → Bool} {P : Nat → Prop} {m : Nat → Nat} {Q s : Nat → Bool} {l c : Nat → Nat} {v w0 e : Nat} {f0 : Int32} {a1 a2 a3 a5 a6 a7 a8 a9 a10 : Nat → Int32} (hv : v < 8) (hM : zk_MI g R P m Q) (hB : zk_B g R m v s e l c) (hf : ∀ x, x < 8 → m x ≠ v) (hc : ∀ w, w < 8 → (s w = true ∨ w = w0) → a5 w = nI (c w))
    (H : ∀ mt a4', (∀ x, x < 8 → a4' x = zk_en (mt x)) → zk_MI g R (fun u => P u ∨ u = v) mt Q → (∀ x, x < 8 → (mt x < 8 ↔ m x < 8 ∨ x = w0)) → post (f0, a1, a2, a3, a4', a5, a6, a7, a8, a9, a10)) :
    ∀ (n t w j : Nat) (mt : Nat → Nat) (a4 : Nat → Int32), t + j ≤ 7 → 8 - t < n → j < e → (s w = true ∨ w = w0) → (∀ x, x < 8 → a4 x = zk_en (mt x)) → zk_H g R m Q s l c w0 mt w j → wX_change_5 post (nI v) f0 n (nI w) (nI t) a1 a2 a3 a4 a5 a6 a7 a8 a9 a10 := by
  intro n
  induction n with
  | zero =>
    intro t w j mt a4 h1 h2
    omega
  | succ n ih =>
    intro t w j mt a4 htj hn hje hs ha hH
    have hw8 : w < 8 := hH.2.2.2.1.1
    have lj8 : l j < 8 := hB.2.1 j hje
    refine pk_le 8 t (fun z => absurd z (by omega)) (fun _ => br_f (nI_pos (by omega)) ⟨pk_in w 8 hw8, nm_r (e' := nI (l j)) ?_ ?_⟩)
    · rw [nI_clamp (by omega), hc w hw8 hs, hH.2.2.2.2.2.2.2.1.1]
    · by_cases c0 : j = 0
      · subst c0
        rw [hB.1]
        obtain ⟨q1, q2⟩ := zk_H_end hv hM hf hB.1 hH
        have P := H (zk_up mt w v) (upd a4 w (nI v)) (zk_up_en ha hv) q1 q2
        refine br_t rfl ⟨pk_in w 8 hw8, nm_r (e' := upd a4 w (nI v)) ?_ (nm_r (nI_1 t) ?_)⟩
        · rw [nI_clamp (by omega), zk_s8 v (by omega)]
        · cases n with
          | zero => omega
          | succ n => exact br_c (fun _ => P) (fun _ => br_t (by decide) P)
      · obtain ⟨w', j', hw', sw', nw', ew', uq, hj', hH'⟩ := zk_H_step hM hB hH (by omega) hje
        refine br_f (fun z => ?_) (zk_po w' hw' ?_ (fun x hx ex => ?_) ⟨pk_in w 8 hw8, nm_r (e' := upd a4 w (nI (l j))) ?_ (nm_r (nI_1 t) (ih (t + 1) w' j' (zk_up mt w (l j)) _ (by omega) (by omega) (by omega) (Or.inl sw') (zk_up_en ha lj8) hH'))⟩)
        · have z2 : l j = v := (nI_eq (by omega) (by omega)).mp z
          rw [← hB.1] at z2
          exact c0 (hB.2.2.2.2.2 j 0 hje (by omega) z2)
        · rw [ha w' hw', ew', zk_en_lt lj8]
        · rw [ha x hx] at ex
          exact uq x hx (zk_en_eq lj8 ex)
        · rw [nI_clamp (by omega), zk_s8 (l j) (by omega)]
theorem zk_change {post : St1 → Prop} {g : Nat → Nat → Bool} {R : Nat → Bool} {P : Nat → Prop} {m : Nat → Nat} {Q s : Nat → Bool} {l c : Nat → Nat} {v w0 e k : Nat} {f0 : Int32} {a1 a2 a3 a4 a5 a6 a7 a8 a9 a10 : Nat → Int32} (hv : v < 8) (hM : zk_MI g R P m Q) (hB : zk_B g R m v s e l c) (hf : ∀ x, x < 8 → m x ≠ v) (hc : ∀ w, w < 8 → s w = true → a5 w = nI (c w)) (hc0 : a5 w0 = nI (l k)) (hk : k < e) (hw : w0 < 8) (mw : ¬ m w0 < 8) (rw0 : R w0 = true) (gw : g (l k) w0 = true) (ha : ∀ x, x < 8 → a4 x = zk_en (m x))
    (H : ∀ mt a4', (∀ x, x < 8 → a4' x = zk_en (mt x)) → zk_MI g R (fun u => P u ∨ u = v) mt Q → (∀ x, x < 8 → (mt x < 8 ↔ m x < 8 ∨ x = w0)) → post (f0, a1, a2, a3, a4', a5, a6, a7, a8, a9, a10)) : wpX_change post (f0, a1, a2, a3, a4, a5, a6, a7, a8, a9, a10) (nI w0) (nI v) := by
  have sw0 : s w0 = false := zk_nt (fun z => mw (hB.2.2.1 w0 hw z).2.1)
  have d8 : zk_d s + zk_d (zk_1 w0) ≤ zk_d zk_al := zk_d_dis (fun _ _ _ => rfl) (fun _ _ _ => rfl) (fun i _ z q => by rw [zk_1_t.mp q] at z; exact zk_tf z sw0)
  have d9 := zk_d_8 zk_al
  rw [zk_d_1 hw] at d8
  have e8 : e = zk_d s + 1 := hB.2.2.2.2.1
  have hB' : zk_B g R m v s e l (zk_up c w0 (l k)) := zk_B_c hB (fun w _ sw => zk_up_n (fun z => by rw [z] at sw; exact zk_tf sw sw0))
  refine ⟨9, zk_ch5 hv hM hB' hf (fun w hw' h => ?_) H 9 0 w0 k m a4 (by omega) (by omega) hk (Or.inr rfl) ha (zk_H_0 hM hB hk hw mw rw0 gw)⟩
  by_cases cw : w = w0
  · subst cw
    rw [zk_up_s]
    exact hc0
  · rw [zk_up_n cw]
    exact hc w hw' (h.elim id (fun z => absurd z cw))
/-- one line member's neighbours -/
theorem zk_au42 {post : Int32 → St1 → Prop} {J : Nat → Nat} {R : Nat} {P : Nat → Prop} {m : Nat → Nat} {Q : Nat → Bool} {v k u : Nat} {f0 : Int32} {a1 a2 a3 a4 a7 a8 a9 a10 : Nat → Int32} {J16 : Int32 → Int32 → Int32 → (Nat → Int32) → (Nat → Int32) → (Nat → Int32) → (Nat → Int32) → (Nat → Int32) → (Nat → Int32) → (Nat → Int32) → (Nat → Int32) → (Nat → Int32) → (Nat → Int32) → Prop} (hG : zk_G J) (hK : zk_K J a1) (hR : R < 256) (hv : v < 8) (hu : u < 8) (hM : zk_MI (zk_g J) R.testBit P m Q) (hf : ∀ x, x < 8 → m x ≠ v) (ha : ∀ x, x < 8 → a4 x = zk_en (m x))
    (HJ : ∀ (s e : Nat) (l c : Nat → Nat) (a5 a6 : Nat → Int32), s < 256 → zk_B (zk_g J) R.testBit m v s.testBit e l c → (∀ w, w < 8 → s.testBit w = true → a5 w = nI (c w)) → (∀ i, i < e → a6 i = nI (l i)) → (∀ i w, i < k + 1 → w < 8 → R.testBit w = true → zk_g J (l i) w = true → s.testBit w = true) → k + 1 ≤ e → J16 (nI s) (nI e) (nI (k + 1)) a1 a2 a3 a4 a5 a6 a7 a8 a9 a10)
    (HS : ∀ (mt : Nat → Nat) (a4' a5' a6' : Nat → Int32) (w0 : Nat), w0 < 8 → ¬ m w0 < 8 → (∀ x, x < 8 → a4' x = zk_en (mt x)) → zk_MI (zk_g J) R.testBit (fun u => P u ∨ u = v) mt Q → (∀ x, x < 8 → (mt x < 8 ↔ m x < 8 ∨ x = w0)) → post 1 (f0, a1, a2, a3, a4', a5', a6', a7, a8, a9, a10)) :
    ∀ (n y s e : Nat) (l c : Nat → Nat) (a5 a6 : Nat → Int32), y ≤ 8 → 8 - y < n → s < 256 → zk_B (zk_g J) R.testBit m v s.testBit e l c → (∀ w, w < 8 → s.testBit w = true → a5 w = nI (c w)) → (∀ i, i < e → a6 i = nI (l i)) → k < e → l k = u → (∀ i w, i < k → w < 8 → R.testBit w = true → zk_g J (l i) w = true → s.testBit w = true) → (∀ w, w < y → R.testBit w = true → zk_g J u w = true → s.testBit w = true) → wX_augment_42 post J16 (nI v) (nI R) (nI k) (nI u) f0 n (nI s) (nI e) (nI y) a1 a2 a3 a4 a5 a6 a7 a8 a9 a10 := by
  intro n
  induction n with
  | zero =>
    intro y s e l c a5 a6 h1 h2
    omega
  | succ n ih =>
    intro y s e l c a5 a6 hy hn hs hB h5 h6 hke lk hk1 hk2
    have e9 : e = zk_d s.testBit + 1 := hB.2.2.2.2.1
    have d8 := zk_d_8 s.testBit
    refine pk_le 8 y (fun z => nm_r (nI_1 k) (HJ s e l c a5 a6 hs hB h5 h6 (fun i w hi hw rw0 gw => ?_) hke)) (fun z => ⟨pk_in u 8 hu, ?_⟩)
    · by_cases ci : i = k
      · rw [ci, lk] at gw
        exact hk2 w (by omega) rw0 gw
      · exact hk1 i w (by omega) hw rw0 gw
    · have hx : (a1 (nI u).toNatClampNeg &&& nI R) &&& (nI s ^^^ (-1)) = nI (zk_df (J u &&& R) s) := by
        rw [nI_clamp (by omega), hK u hu, zk_and, zk_diff _ (zk_and_lt R (hG.1 u hu))]
      refine zk_in (zk_df (J u &&& R) s) y hx rfl (zk_df_lt _ (zk_and_lt R (hG.1 u hu))) z (fun q => br_t rfl (nm_r (nI_1 y) (ih (y + 1) s e l c a5 a6 (by omega) (by omega) hs hB h5 h6 hke lk hk1 (fun w hw rw0 gw => ?_)))) (fun q => br_f (by decide) ?_)
      · by_cases cw : w = y
        · subst cw
          rw [zk_df_b z, Nat.testBit_and] at q
          have gw' : (J u).testBit w = true := gw
          rw [gw', rw0] at q
          revert q
          cases s.testBit w <;> decide
        · exact hk2 w (by omega) rw0 gw
      · rw [zk_df_b z, Nat.testBit_and] at q
        have q2 : (zk_g J u y = true ∧ R.testBit y = true) ∧ s.testBit y = false := by
          revert q
          show ((J u).testBit y && R.testBit y && !s.testBit y) = true → ((J u).testBit y = true ∧ R.testBit y = true) ∧ s.testBit y = false
          cases (J u).testBit y <;> cases R.testBit y <;> cases s.testBit y <;> decide
        obtain ⟨⟨gy, ry⟩, sy⟩ := q2
        have n5 : ∀ w, w < 8 → s.testBit w = true → upd a5 y (nI u) w = nI (c w) := fun w hw sw => by
          rw [pk_un (fun cw => by rw [cw] at sw; exact zk_tf sw sy)]
          exact h5 w hw sw
        refine nm_r (e' := nI (s ||| 2 ^ y)) (by rw [zk_sh1 y z, zk_or]) ⟨pk_in y 8 z, nm_r (e' := upd a5 y (nI u)) (by rw [nI_clamp (by omega), zk_s8 u (by omega)]) ⟨pk_in y 8 z, ?_⟩⟩
        rw [nI_clamp (show y < 2 ^ 31 by omega), ha y z]
        by_cases my : m y < 8
        · rw [zk_en_lt my]
          refine br_t (nI_pos' (by omega)) ⟨pk_in y 8 z, pk_in e 10 (by omega), nm_r (e' := upd a6 e (nI (m y))) (by rw [nI_clamp (by omega), vp_nar_byte, zk_s8 (m y) (by omega)]) (nm_r (nI_1 e) (nm_r (nI_1 y) (ih (y + 1) (s ||| 2 ^ y) (e + 1) (zk_up l e (m y)) (zk_up c y u) _ _ (by omega) (by omega) (zk_or_lt hs (zk_pw y z)) ?_ (fun w hw sw => ?_) (fun i hi => ?_) (by omega) (by rw [zk_up_n (by omega)]; exact lk) (fun i w hi hw rw0 gw => ?_) (fun w hw rw0 gw => ?_))))⟩
          · have := zk_B_add (s' := (s ||| 2 ^ y).testBit) hM hf hB z my sy ry hke (by rw [lk]; exact gy) (fun i _ => zk_or_b s)
            rw [lk] at this
            exact this
          · by_cases cw : w = y
            · subst cw
              rw [pk_us, zk_up_s]
            · rw [zk_up_n cw]
              rw [pk_un cw]
              exact h5 w hw (((zk_or_b s).mp sw).elim id (fun t => absurd t cw))
          · by_cases ci : i = e
            · subst ci
              rw [pk_us, zk_up_s]
            · rw [pk_un ci, zk_up_n ci]
              exact h6 i (by omega)
          · rw [zk_up_n (by omega)] at gw
            exact (zk_or_b s).mpr (Or.inl (hk1 i w hi hw rw0 gw))
          · by_cases cw : w = y
            · exact (zk_or_b s).mpr (Or.inr cw)
            · exact (zk_or_b s).mpr (Or.inl (hk2 w (by omega) rw0 gw))
        · rw [zk_en_ge my]
          exact br_f (by decide) (zk_change (k := k) hv hM hB hf n5 (by rw [pk_us, lk]) hke z my ry (by rw [lk]; exact gy) ha (fun mt a4' h1 h2 h3 => HS mt a4' _ _ y z my h1 h2 h3))
theorem zk_au16 {post : Int32 → St1 → Prop} {J : Nat → Nat} {R : Nat} {P : Nat → Prop} {m : Nat → Nat} {Q : Nat → Bool} {v : Nat} {f0 : Int32} {a1 a2 a3 a4 a7 a8 a9 a10 : Nat → Int32} (hG : zk_G J) (hK : zk_K J a1) (hR : R < 256) (hv : v < 8) (hM : zk_MI (zk_g J) R.testBit P m Q) (hf : ∀ x, x < 8 → m x ≠ v) (ha : ∀ x, x < 8 → a4 x = zk_en (m x))
    (H0 : ∀ (Q' : Nat → Bool) (a5' a6' : Nat → Int32), zk_MI (zk_g J) R.testBit (fun u => P u ∨ u = v) m Q' → post 0 (f0, a1, a2, a3, a4, a5', a6', a7, a8, a9, a10))
    (HS : ∀ (mt : Nat → Nat) (a4' a5' a6' : Nat → Int32) (w0 : Nat), w0 < 8 → ¬ m w0 < 8 → (∀ x, x < 8 → a4' x = zk_en (mt x)) → zk_MI (zk_g J) R.testBit (fun u => P u ∨ u = v) mt Q → (∀ x, x < 8 → (mt x < 8 ↔ m x < 8 ∨ x = w0)) → post 1 (f0, a1, a2, a3, a4', a5', a6', a7, a8, a9, a10)) :
    ∀ (n k s e : Nat) (l c : Nat → Nat) (a5 a6 : Nat → Int32), 9 - k < n → k ≤ e → s < 256 → zk_B (zk_g J) R.testBit m v s.testBit e l c → (∀ w, w < 8 → s.testBit w = true → a5 w = nI (c w)) → (∀ i, i < e → a6 i = nI (l i)) → (∀ i w, i < k → w < 8 → R.testBit w = true → zk_g J (l i) w = true → s.testBit w = true) → wX_augment_16 post (nI v) (nI R) f0 n (nI s) (nI e) (nI k) a1 a2 a3 a4 a5 a6 a7 a8 a9 a10 := by
  intro n
  induction n with
  | zero =>
    intro k s e l c a5 a6 h1
    omega
  | succ n ih =>
    intro k s e l c a5 a6 hn hke hs hB h5 h6 hk1
    have e9 : e = zk_d s.testBit + 1 := hB.2.2.2.2.1
    have d8 := zk_d_8 s.testBit
    refine pk_le e k (fun z => H0 _ a5 a6 (zk_B_fail hM hB (fun i w hi => hk1 i w (by omega)))) (fun z => pk_lt 8 k (fun q => absurd q (by omega)) (fun _ => ⟨pk_in k 10 (by omega), nm_r (e' := nI (l k)) ?_ ⟨9, ?_⟩⟩))
    · rw [nI_clamp (by omega)]
      exact h6 k z
    · exact zk_au42 hG hK hR hv (hB.2.1 k z) hM hf ha (fun s' e' l' c' a5' a6' g1 g2 g3 g4 g5 g6 => ih (k + 1) s' e' l' c' a5' a6' (by omega) g6 g1 g2 g3 g4 g5) HS 9 0 s e l c a5 a6 (by omega) (by omega) hs hB h5 h6 z rfl hk1 (fun w hw => absurd hw (by omega))
/-- how many are matched -/
def zk_dom (m : Nat → Nat) : Nat → Bool := fun x => decide (m x < 8)
theorem zk_dom_t {m : Nat → Nat} {x : Nat} : zk_dom m x = true ↔ m x < 8 := by unfold zk_dom; exact decide_eq_true_iff
theorem zk_dom_add {m mt : Nat → Nat} {w0 : Nat} (hw : w0 < 8) (mw : ¬ m w0 < 8) (h : ∀ x, x < 8 → (mt x < 8 ↔ m x < 8 ∨ x = w0)) : zk_d (zk_dom mt) = zk_d (zk_dom m) + 1 := by
  rw [zk_d_del (A := zk_dom mt) hw (zk_dom_t.mpr ((h w0 hw).mpr (Or.inr rfl)))]
  refine congrArg (· + 1) (zk_d_eq (fun i hi => ?_))
  by_cases c : m i < 8
  · rw [zk_dom_t.mpr c]
    exact zk_m_t.mpr ⟨zk_dom_t.mpr ((h i hi).mpr (Or.inl c)), zk_1_f.mpr (fun z => mw (by rw [← z]; exact c))⟩
  · rw [show zk_dom m i = false from zk_nt (fun z => c (zk_dom_t.mp z))]
    refine zk_nt (fun z => ?_)
    obtain ⟨z1, z2⟩ := zk_m_t.mp z
    rcases (h i hi).mp (zk_dom_t.mp z1) with t | t
    · exact c t
    · exact zk_1_f.mp z2 t
theorem zk_augment {post : Int32 → St1 → Prop} {J : Nat → Nat} {R : Nat} {P : Nat → Prop} {m : Nat → Nat} {Q : Nat → Bool} {v : Nat} {p0 p1 : Int32} {u : St1} (hp0 : p0 = nI v) (hp1 : p1 = nI R) (hG : zk_G J) (hu : zk_U J u) (hR : R < 256) (hv : v < 8) (hM : zk_MI (zk_g J) R.testBit P m Q) (hP : ¬ P v) (ha : ∀ x, x < 8 → u.2.2.2.2.1 x = zk_en (m x))
    (H0 : ∀ (Q' : Nat → Bool) (u' : St1), zk_U J u' → (∀ x, x < 8 → u'.2.2.2.2.1 x = zk_en (m x)) → zk_MI (zk_g J) R.testBit (fun u => P u ∨ u = v) m Q' → post 0 u')
    (H1 : ∀ (mt : Nat → Nat) (u' : St1), zk_U J u' → (∀ x, x < 8 → u'.2.2.2.2.1 x = zk_en (mt x)) → zk_MI (zk_g J) R.testBit (fun u => P u ∨ u = v) mt Q → zk_d (zk_dom mt) = zk_d (zk_dom m) + 1 → post 1 u') : wpX_augment post u p0 p1 := by
  obtain ⟨f0, a1, a2, a3, a4, a5, a6, a7, a8, a9, a10⟩ := u
  subst hp0 hp1
  unfold wpX_augment
  dsimp only
  have hf : ∀ x, x < 8 → m x ≠ v := fun x hx ex => hP (by rw [← ex]; exact (hM.1 x hx (by rw [ex]; exact hv)).2.2)
  refine nm_r (e' := upd a6 0 (nI v)) (by rw [zk_s8 v (by omega)]) ⟨10, zk_au16 hG hu hR hv hM hf ha (fun Q' a5' a6' q => H0 Q' _ hu ha q) (fun mt a4' a5' a6' w0 hw mw h1 h2 h3 => H1 mt _ hu h1 h2 (zk_dom_add hw mw h3)) 10 0 0 1 (fun _ => v) (fun _ => v) a5 _ (by omega) (by omega) (by omega) ⟨rfl, fun _ _ => hv, fun w hw sw => ?_, fun i i1 i2 => by omega, ?_, fun i j hi hj _ => by omega⟩ (fun w hw sw => ?_) (fun i hi => ?_) (fun i w hi => absurd hi (by omega))⟩
  · rw [Nat.zero_testBit] at sw
    exact Bool.noConfusion sw
  · rw [zk_d_none (fun i _ => Nat.zero_testBit i)]
  · rw [Nat.zero_testBit] at sw
    exact Bool.noConfusion sw
  · have : i = 0 := by omega
    rw [this, pk_us]
/-! the matching is as large as the least cover -/
noncomputable def zk_dec (p : Prop) : Bool := @decide p (Classical.propDecidable p)
theorem zk_dec_t {p : Prop} : zk_dec p = true ↔ p := @decide_eq_true_iff p (Classical.propDecidable p)
theorem zk_koenig {g : Nat → Nat → Bool} {R L : Nat → Bool} {P : Nat → Prop} {m : Nat → Nat} {Q : Nat → Bool} (hM : zk_MI g R P m Q) (hP : ∀ u, u < 8 → (P u ↔ L u = true)) : zk_d (zk_dom m) = zk_bc g L R := by
  obtain ⟨M1, M2, M3, M4⟩ := hM
  refine Nat.le_antisymm ?_ ?_
  · obtain ⟨A, B, hc, e⟩ := zk_bc_ex g L R
    rw [← e]
    have s1 : zk_d (zk_dom m) ≤ zk_d (fun x => zk_dom m x && A (m x)) + zk_d B := zk_d_sub (fun x hx h => by
      have mx := zk_dom_t.mp h
      obtain ⟨q1, q2, q3⟩ := M1 x hx mx
      rcases hc (m x) x mx hx ((hP _ mx).mp q3) q2 q1 with z | z
      · left
        rw [h, z]
        rfl
      · exact Or.inr z)
    have s2 : zk_d (fun x => zk_dom m x && A (m x)) ≤ zk_d A := by
      refine zk_rel (fun x u => zk_dom m x && decide (m x = u)) (fun x hx h => ?_) (fun u x y hu hx hy h1 h2 => ?_)
      · have h' : zk_dom m x = true ∧ A (m x) = true := by
          rw [← Bool.and_eq_true]
          exact h
        refine ⟨m x, zk_dom_t.mp h'.1, ?_, h'.2⟩
        rw [h'.1]
        exact decide_eq_true rfl
      · rw [Bool.and_eq_true] at h1 h2
        have e1 := of_decide_eq_true h1.2
        have e2 := of_decide_eq_true h2.2
        exact M2 x y hx hy (zk_dom_t.mp h1.1) (by rw [e1, e2])
    omega
  · have s0 : zk_bc g L R ≤ zk_d (fun u => zk_dec (∃ x, x < 8 ∧ m x = u ∧ Q x = false)) + zk_d Q := zk_bc_le (fun u w hu hw lu rw0 gw => by
      rcases M4 u w hu hw ((hP u hu).mpr lu) rw0 gw with z | z
      · exact Or.inr z
      · exact Or.inl (zk_dec_t.mpr z))
    have s1 : zk_d (fun u => zk_dec (∃ x, x < 8 ∧ m x = u ∧ Q x = false)) ≤ zk_d (zk_m (zk_dom m) Q) := by
      refine zk_rel (fun u x => decide (m x = u)) (fun u hu h => ?_) (fun x u u' hx hu hu' h1 h2 => ?_)
      · obtain ⟨x, hx, ex, qx⟩ := zk_dec_t.mp h
        exact ⟨x, hx, decide_eq_true ex, zk_m_t.mpr ⟨zk_dom_t.mpr (by rw [ex]; exact hu), qx⟩⟩
      · rw [← of_decide_eq_true h1, ← of_decide_eq_true h2]
    have s2 : zk_d (zk_m (zk_dom m) Q) + zk_d Q ≤ zk_d (zk_dom m) := zk_d_dis (fun i _ z => (zk_m_t.mp z).1) (fun i hi z => zk_dom_t.mpr (M3 i hi z)) (fun i _ z q => zk_tf q (zk_m_t.mp z).2)
    omega
theorem zk_MI_P {g : Nat → Nat → Bool} {R : Nat → Bool} {P P' : Nat → Prop} {m : Nat → Nat} {Q : Nat → Bool} (hM : zk_MI g R P m Q) (h : ∀ u, u < 8 → (P u ↔ P' u)) : zk_MI g R P' m Q := by
  obtain ⟨M1, M2, M3, M4⟩ := hM
  exact ⟨fun x hx mx => ⟨(M1 x hx mx).1, (M1 x hx mx).2.1, (h _ mx).mp (M1 x hx mx).2.2⟩, M2, M3, fun u w hu hw pu => M4 u w hu hw ((h u hu).mpr pu)⟩
theorem zk_ma26 {post : Int32 → St1 → Prop} {J : Nat → Nat} {L R : Nat} (hG : zk_G J) (hL : L < 256) (hR : R < 256) (H : ∀ u', zk_U J u' → post (nI (zk_bc (zk_g J) L.testBit R.testBit)) u') : ∀ (n i : Nat) (m : Nat → Nat) (Q : Nat → Bool) (f0 : Int32) (a1 a2 a3 a4 a5 a6 a7 a8 a9 a10 : Nat → Int32), i ≤ 8 → 8 - i < n → zk_K J a1 → (∀ x, x < 8 → a4 x = zk_en (m x)) → zk_MI (zk_g J) R.testBit (fun u => u < i ∧ L.testBit u = true) m Q → wX_match_26 post (nI L) (nI R) n (nI (zk_d (zk_dom m))) (nI i) f0 a1 a2 a3 a4 a5 a6 a7 a8 a9 a10 := by
  intro n
  induction n with
  | zero =>
    intro i m Q f0 a1 a2 a3 a4 a5 a6 a7 a8 a9 a10 h1 h2
    omega
  | succ n ih =>
    intro i m Q f0 a1 a2 a3 a4 a5 a6 a7 a8 a9 a10 hi hn hK ha hM
    refine pk_le 8 i (fun z => ?_) (fun z => ?_)
    · have e : i = 8 := by omega
      subst e
      rw [zk_koenig (L := L.testBit) hM (fun u hu => ⟨fun z => z.2, fun z => ⟨hu, z⟩⟩)]
      exact H _ hK
    · refine zk_in L i rfl rfl hL z (fun e => br_t rfl ?_) (fun e => br_f (by decide) ?_)
      · refine nm_r (e' := nI (zk_d (zk_dom m))) (by rw [← nI_0, nI_add, Nat.add_zero]) (nm_r (nI_1 i) (ih (i + 1) m Q f0 a1 a2 a3 a4 a5 a6 a7 a8 a9 a10 (by omega) (by omega) hK ha (zk_MI_P hM (fun u hu => ⟨fun q => ⟨by omega, q.2⟩, fun q => ⟨?_, q.2⟩⟩))))
        have : u ≠ i := fun c => by
          have q2 := q.2
          rw [c] at q2
          exact zk_tf q2 e
        have := q.1
        omega
      · have hPP : ∀ u, u < 8 → ((u < i ∧ L.testBit u = true) ∨ u = i ↔ u < i + 1 ∧ L.testBit u = true) := fun u hu => by
          constructor
          · rintro (q | q)
            · exact ⟨by omega, q.2⟩
            · exact ⟨by omega, by rw [q]; exact e⟩
          · rintro ⟨q1, q2⟩
            by_cases c : u = i
            · exact Or.inr c
            · exact Or.inl ⟨by omega, q2⟩
        refine zk_augment rfl rfl hG hK hR z hM (fun q => by omega) ha (fun Q' u' hu' ha' hM' => ?_) (fun mt u' hu' ha' hM' hd => ?_)
        · obtain ⟨b0, b1, b2, b3, b4, b5, b6, b7, b8, b9, b10⟩ := u'
          exact br_t rfl (nm_r (e' := nI (zk_d (zk_dom m))) (by rw [← nI_0, nI_add, Nat.add_zero]) (nm_r (nI_1 i) (ih (i + 1) m Q' _ _ _ _ _ _ _ _ _ _ _ (by omega) (by omega) hu' ha' (zk_MI_P hM' hPP))))
        · obtain ⟨b0, b1, b2, b3, b4, b5, b6, b7, b8, b9, b10⟩ := u'
          exact br_f (by decide) (nm_r (e' := nI (zk_d (zk_dom mt))) (by rw [hd, nI_1]) (nm_r (nI_1 i) (ih (i + 1) mt Q _ _ _ _ _ _ _ _ _ _ _ (by omega) (by omega) hu' ha' (zk_MI_P hM' hPP))))
theorem zk_ma2 {post : Int32 → St1 → Prop} {J : Nat → Nat} {L R : Nat} {f0 : Int32} {a1 a2 a3 a5 a6 a7 a8 a9 a10 : Nat → Int32} (hG : zk_G J) (hK : zk_K J a1) (hL : L < 256) (hR : R < 256) (H : ∀ u', zk_U J u' → post (nI (zk_bc (zk_g J) L.testBit R.testBit)) u') : ∀ (n i : Nat) (a4 : Nat → Int32), i ≤ 8 → 8 - i < n → (∀ x, x < i → a4 x = -1) → wX_match_2 post (nI L) (nI R) f0 n (nI i) a1 a2 a3 a4 a5 a6 a7 a8 a9 a10 := by
  intro n
  induction n with
  | zero =>
    intro i a4 h1 h2
    omega
  | succ n ih =>
    intro i a4 hi hn ha
    refine pk_le 8 i (fun z => ⟨9, ?_⟩) (fun z => ⟨pk_in i 8 z, nm_r (e' := upd a4 i (-1)) (by rw [nI_clamp (by omega)]) (nm_r (nI_1 i) (ih (i + 1) _ (by omega) (by omega) (fun x hx => ?_)))⟩)
    · have t := zk_ma26 hG hL hR H 9 0 (fun _ => 8) (fun _ => false) f0 a1 a2 a3 a4 a5 a6 a7 a8 a9 a10 (by omega) (by omega) hK (fun x hx => by rw [ha x (by omega)]; rfl) ⟨fun x hx h => absurd (show 8 < 8 from h) (by decide), fun x y hx hy h => absurd (show 8 < 8 from h) (by decide), fun x hx h => Bool.noConfusion h, fun u w hu hw pu => absurd pu.1 (by omega)⟩
      rw [zk_d_none (A := zk_dom (fun _ => 8)) (fun i _ => rfl)] at t
      exact t
    · by_cases c : x = i
      · rw [c, pk_us]
      · rw [pk_un c]
        exact ha x (by omega)
theorem zk_match {post : Int32 → St1 → Prop} {J : Nat → Nat} {L R : Nat} {p0 p1 : Int32} {u : St1} (hp0 : p0 = nI L) (hp1 : p1 = nI R) (hG : zk_G J) (hu : zk_U J u) (hL : L < 256) (hR : R < 256) (H : ∀ u', zk_U J u' → post (nI (zk_bc (zk_g J) L.testBit R.testBit)) u') : wpX_match post u p0 p1 := by
  obtain ⟨f0, a1, a2, a3, a4, a5, a6, a7, a8, a9, a10⟩ := u
  subst hp0 hp1
  unfold wpX_match
  dsimp only
  exact ⟨9, zk_ma2 hG hu hL hR H 9 0 a4 (by omega) (by omega) (fun x hx => absurd hx (by omega))⟩
end
section
/-! halves, costWith, canHave, whole, bare, evenly -/
theorem zk_halves {post : Int32 → St1 → Prop} {J : Nat → Nat} {u : St1} (hG : zk_G J) (hu : zk_U J u) (H : ∀ u', zk_U J u' → post (nI (zk_h (zk_g J))) u') : wpX_halves post u := by
  obtain ⟨f0, a1, a2, a3, a4, a5, a6, a7, a8, a9, a10⟩ := u
  unfold wpX_halves
  dsimp only
  refine zk_match (L := 255) (R := 255) rfl rfl hG hu (by omega) (by omega) (fun u' hu' => ?_)
  rw [show zk_bc (zk_g J) (255 : Nat).testBit (255 : Nat).testBit = zk_h (zk_g J) from zk_bc_eq zk_al_255 zk_al_255]
  exact H _ hu'
theorem zk_own_b {v i : Nat} (hi : i < 8) : (zk_df 255 (2 ^ v)).testBit i = zk_own v i := by
  rw [zk_dp_b hi]
  unfold zk_own zk_m
  rw [zk_255 hi]
  rfl
theorem zk_far_b {J : Nat → Nat} {v i : Nat} (hi : i < 8) : (zk_df (zk_df 255 (2 ^ v)) (J v)).testBit i = zk_far (zk_g J) v i := by
  rw [zk_df_b hi, zk_own_b hi]
  rfl
theorem zk_costWith {post : Int32 → St1 → Prop} {J : Nat → Nat} {v n : Nat} {p0 p1 : Int32} {u : St1} (hp0 : p0 = nI v) (hp1 : p1 = nI n) (hv : v < 8) (hn : n ≤ 2) (hG : zk_G J) (hu : zk_U J u) (H : ∀ u', zk_U J u' → post (nI (zk_cost (zk_g J) v n)) u') : wpX_costWith post u p0 p1 := by
  obtain ⟨f0, a1, a2, a3, a4, a5, a6, a7, a8, a9, a10⟩ := u
  subst hp0 hp1
  unfold wpX_costWith
  dsimp only
  have ho : zk_df 255 (2 ^ v) < 256 := zk_df_lt _ (by omega)
  have hfa : zk_df (zk_df 255 (2 ^ v)) (J v) < 256 := zk_df_lt _ ho
  have hK : a1 v = nI (J v) := hu v hv
  refine nm_r (e' := nI (zk_df 255 (2 ^ v))) (by rw [zk_sh1 v hv, show (255 : Int32) = nI 255 from rfl, zk_diff _ (by omega)]) ⟨pk_in v 8 hv, nm_r (e' := nI (zk_df (zk_df 255 (2 ^ v)) (J v))) (by rw [nI_clamp (by omega), hK, zk_diff _ ho]) ⟨pk_in v 8 hv, zk_ones (J v) (by rw [nI_clamp (by omega), hK]) (hG.1 v hv) ?_⟩⟩
  refine pk_eq n 2 (fun z => ?_) (fun z => pk_eq n 1 (fun z1 => ?_) (fun z1 => ?_))
  · refine zk_match rfl rfl hG hu ho ho (fun u' hu' => ?_)
    have e : (2 : Int32) + nI (zk_bc (zk_g J) (zk_df 255 (2 ^ v)).testBit (zk_df 255 (2 ^ v)).testBit) = nI (zk_cost (zk_g J) v n) := by
      rw [zk_bc_eq (fun i hi => zk_own_b hi) (fun i hi => zk_own_b hi), show (2 : Int32) = nI 2 from rfl, nI_add]
      unfold zk_cost
      rw [if_pos z]
    rw [e]
    exact H _ hu'
  · refine zk_match rfl rfl hG hu hfa ho (fun u' hu' => ?_)
    have e : ((1 : Int32) + nI (zk_d (J v).testBit)) + nI (zk_bc (zk_g J) (zk_df (zk_df 255 (2 ^ v)) (J v)).testBit (zk_df 255 (2 ^ v)).testBit) = nI (zk_cost (zk_g J) v n) := by
      rw [zk_bc_eq (fun i hi => zk_far_b hi) (fun i hi => zk_own_b hi), show (1 : Int32) = nI 1 from rfl, nI_add, nI_add]
      unfold zk_cost
      rw [if_neg z, if_pos z1]
      rfl
    rw [e]
    exact H _ hu'
  · refine zk_match rfl rfl hG hu hfa hfa (fun u' hu' => ?_)
    have e : ((2 : Int32) * nI (zk_d (J v).testBit)) + nI (zk_bc (zk_g J) (zk_df (zk_df 255 (2 ^ v)) (J v)).testBit (zk_df (zk_df 255 (2 ^ v)) (J v)).testBit) = nI (zk_cost (zk_g J) v n) := by
      rw [zk_bc_eq (fun i hi => zk_far_b hi) (fun i hi => zk_far_b hi), show (2 : Int32) = nI 2 from rfl, pk_mul, nI_add]
      unfold zk_cost
      rw [if_neg z, if_neg z1]
      rfl
    rw [e]
    exact H _ hu'
theorem zk_cost_b (g : Nat → Nat → Bool) (v n : Nat) : zk_cost g v n < 2 ^ 31 := by
  have d := zk_d_8 (g v)
  have b1 := zk_bc_8 g (zk_own v) (zk_own v)
  have b2 := zk_bc_8 g (zk_far g v) (zk_own v)
  have b3 := zk_bc_8 g (zk_far g v) (zk_far g v)
  unfold zk_cost
  by_cases h2 : n = 2
  · rw [if_pos h2]
    omega
  · rw [if_neg h2]
    by_cases h1 : n = 1
    · rw [if_pos h1]
      omega
    · rw [if_neg h1]
      omega
theorem zk_h_b (g : Nat → Nat → Bool) : zk_h g ≤ 8 := zk_bc_8 g zk_al zk_al
theorem zk_isVertex {post : Int32 → Prop} {u : St2} {p : Int32} {v : Nat} (hp : p = nI v) (hv : v < 8) (H : post 1) : wpX_isVertex post u p := by
  subst hp
  exact pk_lt v 0 (fun z => absurd z (by omega)) (fun _ => pk_le 8 v (fun z => absurd z (by omega)) (fun _ => H))
theorem zk_canHave {post : Int32 → St1 → Prop} {J : Nat → Nat} {v n : Nat} {p0 p1 : Int32} {u : St1} (hp0 : p0 = nI v) (hp1 : p1 = nI n) (hv : v < 8) (hn : n ≤ 2) (hG : zk_G J) (hu : zk_U J u) (H0 : zk_cost (zk_g J) v n ≠ zk_h (zk_g J) → ∀ u', zk_U J u' → post 0 u') (H1 : zk_cost (zk_g J) v n = zk_h (zk_g J) → ∀ u', zk_U J u' → post 1 u') : wpX_canHave post u p0 p1 := by
  obtain ⟨f0, a1, a2, a3, a4, a5, a6, a7, a8, a9, a10⟩ := u
  subst hp0 hp1
  unfold wpX_canHave
  dsimp only
  refine zk_isVertex rfl hv (br_f (by decide) (pk_lt n 0 (fun z => absurd z (by omega)) (fun _ => pk_le n 2 (fun _ => ?_) (fun z => absurd z (by omega)))))
  refine zk_halves hG hu (fun u1 hu1 => ?_)
  obtain ⟨b0, b1, b2, b3, b4, b5, b6, b7, b8, b9, b10⟩ := u1
  refine zk_costWith rfl rfl hv hn hG hu1 (fun u2 hu2 => ?_)
  obtain ⟨c0, c1, c2, c3, c4, c5, c6, c7, c8, c9, c10⟩ := u2
  have h8 := zk_h_b (zk_g J)
  exact pk_eq (zk_cost (zk_g J) v n) (zk_h (zk_g J)) (fun z => H1 z _ hu2) (fun z => H0 z _ hu2) rfl rfl (zk_cost_b _ _ _) (by omega)
theorem zk_evenly {post : Int32 → St1 → Prop} {J : Nat → Nat} {u : St1} (hG : zk_G J) (hu : zk_U J u) (H0 : zk_h (zk_g J) ≠ 8 → ∀ u', zk_U J u' → post 0 u') (H1 : zk_h (zk_g J) = 8 → ∀ u', zk_U J u' → post 1 u') : wpX_evenly post u := by
  obtain ⟨f0, a1, a2, a3, a4, a5, a6, a7, a8, a9, a10⟩ := u
  unfold wpX_evenly
  dsimp only
  refine zk_halves hG hu (fun u2 hu2 => ?_)
  obtain ⟨c0, c1, c2, c3, c4, c5, c6, c7, c8, c9, c10⟩ := u2
  have h8 := zk_h_b (zk_g J)
  exact pk_eq (zk_h (zk_g J)) 8 (fun z => H1 z _ hu2) (fun z => H0 z _ hu2)
theorem zk_whole4 {post : Int32 → St1 → Prop} {J : Nat → Nat} (hG : zk_G J) (H : ∀ A u', A < 256 → (∀ v, v < 8 → (A.testBit v = true ↔ zk_cost (zk_g J) v 0 ≠ zk_h (zk_g J) ∧ zk_cost (zk_g J) v 1 ≠ zk_h (zk_g J))) → zk_U J u' → post (nI A) u') : ∀ (n i A : Nat) (f0 : Int32) (a1 a2 a3 a4 a5 a6 a7 a8 a9 a10 : Nat → Int32), i ≤ 8 → 8 - i < n → A < 256 → zk_K J a1 → (∀ v, v < i → (A.testBit v = true ↔ zk_cost (zk_g J) v 0 ≠ zk_h (zk_g J) ∧ zk_cost (zk_g J) v 1 ≠ zk_h (zk_g J))) → (∀ v, v < 8 → i ≤ v → A.testBit v = false) → wX_whole_4 post n (nI A) (nI i) f0 a1 a2 a3 a4 a5 a6 a7 a8 a9 a10 := by
  intro n
  induction n with
  | zero =>
    intro i A f0 a1 a2 a3 a4 a5 a6 a7 a8 a9 a10 _ h
    omega
  | succ n ih =>
    intro i A f0 a1 a2 a3 a4 a5 a6 a7 a8 a9 a10 hi hn hA hK h1 h2
    refine pk_le 8 i (fun z => ?_) (fun z => ?_)
    · have e : i = 8 := by omega
      subst e
      exact H A _ hA h1 hK
    · have no : ¬ (zk_cost (zk_g J) i 0 ≠ zk_h (zk_g J) ∧ zk_cost (zk_g J) i 1 ≠ zk_h (zk_g J)) → ∀ u' : St1, zk_U J u' → ∀ x, x = nI A ||| 0 → ∀ y, y = nI i + 1 → wX_whole_4 post n x y u'.1 u'.2.1 u'.2.2.1 u'.2.2.2.1 u'.2.2.2.2.1 u'.2.2.2.2.2.1 u'.2.2.2.2.2.2.1 u'.2.2.2.2.2.2.2.1 u'.2.2.2.2.2.2.2.2.1 u'.2.2.2.2.2.2.2.2.2.1 u'.2.2.2.2.2.2.2.2.2.2 := fun q u' hu' => by
        obtain ⟨q1, q2⟩ := zk_set_no (P := fun v => zk_cost (zk_g J) v 0 ≠ zk_h (zk_g J) ∧ zk_cost (zk_g J) v 1 ≠ zk_h (zk_g J)) z h1 h2 q
        exact nm_r (e' := nI A) (by rw [← nI_0, zk_or, Nat.or_zero]) (nm_r (nI_1 i) (ih (i + 1) A _ _ _ _ _ _ _ _ _ _ _ (by omega) (by omega) hA hu' q1 q2))
      refine zk_canHave (n := 0) rfl rfl z (by omega) hG hK (fun c1 u1 hu1 => ?_) (fun c1 u1 hu1 => ?_)
      · obtain ⟨b0, b1, b2, b3, b4, b5, b6, b7, b8, b9, b10⟩ := u1
        refine br_t rfl (zk_canHave (n := 1) rfl rfl z (by omega) hG hu1 (fun c2 u2 hu2 => ?_) (fun c2 u2 hu2 => ?_))
        · obtain ⟨d0, d1, d2, d3, d4, d5, d6, d7, d8, d9, d10⟩ := u2
          obtain ⟨q1, q2⟩ := zk_set_bit (P := fun v => zk_cost (zk_g J) v 0 ≠ zk_h (zk_g J) ∧ zk_cost (zk_g J) v 1 ≠ zk_h (zk_g J)) h1 h2 (fun v => zk_or_b A) ⟨c1, c2⟩
          exact br_t rfl (nm_r (e' := nI (A ||| 2 ^ i)) (by rw [zk_sh1 i z, zk_or]) (nm_r (nI_1 i) (ih (i + 1) (A ||| 2 ^ i) _ _ _ _ _ _ _ _ _ _ _ (by omega) (by omega) (zk_or_lt hA (zk_pw i z)) hu2 q1 q2)))
        · obtain ⟨d0, d1, d2, d3, d4, d5, d6, d7, d8, d9, d10⟩ := u2
          exact br_f (by decide) (no (fun q => q.2 c2) (d0, d1, d2, d3, d4, d5, d6, d7, d8, d9, d10) hu2)
      · obtain ⟨b0, b1, b2, b3, b4, b5, b6, b7, b8, b9, b10⟩ := u1
        exact br_f (by decide) (no (fun q => q.1 c1) (b0, b1, b2, b3, b4, b5, b6, b7, b8, b9, b10) hu1)
theorem zk_whole {post : Int32 → St1 → Prop} {J : Nat → Nat} {u : St1} (hG : zk_G J) (hu : zk_U J u) (H : ∀ A u', A < 256 → (∀ v, v < 8 → (A.testBit v = true ↔ zk_cost (zk_g J) v 0 ≠ zk_h (zk_g J) ∧ zk_cost (zk_g J) v 1 ≠ zk_h (zk_g J))) → zk_U J u' → post (nI A) u') : wpX_whole post u := by
  obtain ⟨f0, a1, a2, a3, a4, a5, a6, a7, a8, a9, a10⟩ := u
  unfold wpX_whole
  dsimp only
  exact ⟨9, zk_whole4 hG H 9 0 0 _ _ _ _ _ _ _ _ _ _ _ (by omega) (by omega) (by omega) hu (fun v hv => absurd hv (by omega)) (fun v _ _ => Nat.zero_testBit v)⟩
theorem zk_bare4 {post : Int32 → St1 → Prop} {J : Nat → Nat} (hG : zk_G J) (H : ∀ A u', A < 256 → (∀ v, v < 8 → (A.testBit v = true ↔ zk_cost (zk_g J) v 1 ≠ zk_h (zk_g J) ∧ zk_cost (zk_g J) v 2 ≠ zk_h (zk_g J))) → zk_U J u' → post (nI A) u') : ∀ (n i A : Nat) (f0 : Int32) (a1 a2 a3 a4 a5 a6 a7 a8 a9 a10 : Nat → Int32), i ≤ 8 → 8 - i < n → A < 256 → zk_K J a1 → (∀ v, v < i → (A.testBit v = true ↔ zk_cost (zk_g J) v 1 ≠ zk_h (zk_g J) ∧ zk_cost (zk_g J) v 2 ≠ zk_h (zk_g J))) → (∀ v, v < 8 → i ≤ v → A.testBit v = false) → wX_bare_4 post n (nI A) (nI i) f0 a1 a2 a3 a4 a5 a6 a7 a8 a9 a10 := by
  intro n
  induction n with
  | zero =>
    intro i A f0 a1 a2 a3 a4 a5 a6 a7 a8 a9 a10 _ h
    omega
  | succ n ih =>
    intro i A f0 a1 a2 a3 a4 a5 a6 a7 a8 a9 a10 hi hn hA hK h1 h2
    refine pk_le 8 i (fun z => ?_) (fun z => ?_)
    · have e : i = 8 := by omega
      subst e
      exact H A _ hA h1 hK
    · have no : ¬ (zk_cost (zk_g J) i 1 ≠ zk_h (zk_g J) ∧ zk_cost (zk_g J) i 2 ≠ zk_h (zk_g J)) → ∀ u' : St1, zk_U J u' → ∀ x, x = nI A ||| 0 → ∀ y, y = nI i + 1 → wX_bare_4 post n x y u'.1 u'.2.1 u'.2.2.1 u'.2.2.2.1 u'.2.2.2.2.1 u'.2.2.2.2.2.1 u'.2.2.2.2.2.2.1 u'.2.2.2.2.2.2.2.1 u'.2.2.2.2.2.2.2.2.1 u'.2.2.2.2.2.2.2.2.2.1 u'.2.2.2.2.2.2.2.2.2.2 := fun q u' hu' => by
        obtain ⟨q1, q2⟩ := zk_set_no (P := fun v => zk_cost (zk_g J) v 1 ≠ zk_h (zk_g J) ∧ zk_cost (zk_g J) v 2 ≠ zk_h (zk_g J)) z h1 h2 q
        exact nm_r (e' := nI A) (by rw [← nI_0, zk_or, Nat.or_zero]) (nm_r (nI_1 i) (ih (i + 1) A _ _ _ _ _ _ _ _ _ _ _ (by omega) (by omega) hA hu' q1 q2))
      refine zk_canHave (n := 1) rfl rfl z (by omega) hG hK (fun c1 u1 hu1 => ?_) (fun c1 u1 hu1 => ?_)
      · obtain ⟨b0, b1, b2, b3, b4, b5, b6, b7, b8, b9, b10⟩ := u1
        refine br_t rfl (zk_canHave (n := 2) rfl rfl z (by omega) hG hu1 (fun c2 u2 hu2 => ?_) (fun c2 u2 hu2 => ?_))
        · obtain ⟨d0, d1, d2, d3, d4, d5, d6, d7, d8, d9, d10⟩ := u2
          obtain ⟨q1, q2⟩ := zk_set_bit (P := fun v => zk_cost (zk_g J) v 1 ≠ zk_h (zk_g J) ∧ zk_cost (zk_g J) v 2 ≠ zk_h (zk_g J)) h1 h2 (fun v => zk_or_b A) ⟨c1, c2⟩
          exact br_t rfl (nm_r (e' := nI (A ||| 2 ^ i)) (by rw [zk_sh1 i z, zk_or]) (nm_r (nI_1 i) (ih (i + 1) (A ||| 2 ^ i) _ _ _ _ _ _ _ _ _ _ _ (by omega) (by omega) (zk_or_lt hA (zk_pw i z)) hu2 q1 q2)))
        · obtain ⟨d0, d1, d2, d3, d4, d5, d6, d7, d8, d9, d10⟩ := u2
          exact br_f (by decide) (no (fun q => q.2 c2) (d0, d1, d2, d3, d4, d5, d6, d7, d8, d9, d10) hu2)
      · obtain ⟨b0, b1, b2, b3, b4, b5, b6, b7, b8, b9, b10⟩ := u1
        exact br_f (by decide) (no (fun q => q.1 c1) (b0, b1, b2, b3, b4, b5, b6, b7, b8, b9, b10) hu1)
theorem zk_bare {post : Int32 → St1 → Prop} {J : Nat → Nat} {u : St1} (hG : zk_G J) (hu : zk_U J u) (H : ∀ A u', A < 256 → (∀ v, v < 8 → (A.testBit v = true ↔ zk_cost (zk_g J) v 1 ≠ zk_h (zk_g J) ∧ zk_cost (zk_g J) v 2 ≠ zk_h (zk_g J))) → zk_U J u' → post (nI A) u') : wpX_bare post u := by
  obtain ⟨f0, a1, a2, a3, a4, a5, a6, a7, a8, a9, a10⟩ := u
  unfold wpX_bare
  dsimp only
  exact ⟨9, zk_bare4 hG H 9 0 0 _ _ _ _ _ _ _ _ _ _ _ (by omega) (by omega) (by omega) hu (fun v hv => absurd hv (by omega)) (fun v _ _ => Nat.zero_testBit v)⟩
end
section
/-! matching: pairs for every set -/
def zk_PR (g : Nat → Nat → Bool) (T : Nat → Bool) (q : Nat) : Prop := (∀ C, zk_cov g T C → q ≤ zk_d (zk_a C T)) ∧ ∃ C, zk_cov g T C ∧ zk_d C ≤ 2 * q
theorem zk_cov_sub {g : Nat → Nat → Bool} {S T C : Nat → Bool} (h : zk_cov g T C) (hs : ∀ i, i < 8 → S i = true → T i = true) : zk_cov g S C := fun u w hu hw su sw => h u w hu hw (hs u hu su) (hs w hw sw)
theorem zk_PR_8 {g : Nat → Nat → Bool} {T : Nat → Bool} {q : Nat} (h : ∀ C, zk_cov g T C → q ≤ zk_d (zk_a C T)) : q ≤ 8 :=
  Nat.le_trans (h (fun _ => true) (fun _ _ _ _ _ _ _ => Or.inl rfl)) (zk_d_8 _)
theorem zk_PR_sub {g : Nat → Nat → Bool} {T W : Nat → Bool} {q : Nat} (hW : ∀ i, i < 8 → W i = true → T i = true) (h : ∀ C, zk_cov g W C → q ≤ zk_d (zk_a C W)) : ∀ C, zk_cov g T C → q ≤ zk_d (zk_a C T) :=
  fun C hc => Nat.le_trans (h C (zk_cov_sub hc hW)) (zk_d_le (fun i hi z => zk_a_t.mpr ⟨(zk_a_t.mp z).1, hW i hi (zk_a_t.mp z).2⟩))
theorem zk_PR_w {g : Nat → Nat → Bool} {T W : Nat → Bool} {v w q : Nat} (hv : v < 8) (hw : w < 8) (tv : T v = true) (tw : T w = true) (gw : g v w = true) (hW : ∀ i, i < 8 → W i = true → T i = true ∧ i ≠ v ∧ i ≠ w) (h : ∀ C, zk_cov g W C → q ≤ zk_d (zk_a C W)) : ∀ C, zk_cov g T C → 1 + q ≤ zk_d (zk_a C T) := by
  intro C hc
  have l := h C (zk_cov_sub hc (fun i hi z => (hW i hi z).1))
  have one : ∀ x, x < 8 → C x = true → T x = true → W x = false → 1 + q ≤ zk_d (zk_a C T) := fun x hx cx tx wx => by
    have d := zk_d_dis (A := zk_a C T) (B := zk_a C W) (C := zk_1 x) (fun i hi z => zk_a_t.mpr ⟨(zk_a_t.mp z).1, (hW i hi (zk_a_t.mp z).2).1⟩) (fun i _ z => by rw [zk_1_t.mp z]; exact zk_a_t.mpr ⟨cx, tx⟩) (fun i _ z z2 => by rw [zk_1_t.mp z2] at z; exact zk_tf (zk_a_t.mp z).2 wx)
    rw [zk_d_1 hx] at d
    omega
  rcases hc v w hv hw tv tw gw with z | z
  · exact one v hv z tv (zk_nt (fun q => (hW v hv q).2.1 rfl))
  · exact one w hw z tw (zk_nt (fun q => (hW w hw q).2.2 rfl))
/-- v has no neighbour in the rest: a cover of the rest is one -/
theorem zk_cov_v0 {g : Nat → Nat → Bool} (hy : zk_sym g) {T W C : Nat → Bool} {v : Nat} (hv : v < 8) (irr : g v v = false) (hW : ∀ i, i < 8 → T i = true → i ≠ v → W i = true) (hn : ∀ w, w < 8 → W w = true → g v w = false) (h : zk_cov g W C) : zk_cov g T C := by
  intro a b ha hb ta tb gab
  by_cases ca : a = v
  · rw [ca] at gab
    by_cases cb : b = v
    · rw [cb] at gab
      exact (zk_tf gab irr).elim
    · exact (zk_tf gab (hn b hb (hW b hb tb cb))).elim
  · by_cases cb : b = v
    · rw [cb] at gab
      exact (zk_tf (hy a v ha hv gab) (hn a ha (hW a ha ta ca))).elim
    · exact h a b ha hb (hW a ha ta ca) (hW b hb tb cb) gab
theorem zk_cov_vw {g : Nat → Nat → Bool} {T W C : Nat → Bool} {v w q : Nat} (hv : v < 8) (hw : w < 8) (hW : ∀ i, i < 8 → T i = true → i ≠ v → i ≠ w → W i = true) (h : zk_cov g W C) (hd : zk_d C + 2 ≤ q) : ∃ C', zk_cov g T C' ∧ zk_d C' ≤ q := by
  refine ⟨zk_o (zk_o C (zk_1 v)) (zk_1 w), fun a b ha hb ta tb gab => ?_, ?_⟩
  · by_cases ca : a = v
    · exact Or.inl (zk_o_t.mpr (Or.inl (zk_o_t.mpr (Or.inr (zk_1_t.mpr ca)))))
    · by_cases ca2 : a = w
      · exact Or.inl (zk_o_t.mpr (Or.inr (zk_1_t.mpr ca2)))
      · by_cases cb : b = v
        · exact Or.inr (zk_o_t.mpr (Or.inl (zk_o_t.mpr (Or.inr (zk_1_t.mpr cb)))))
        · by_cases cb2 : b = w
          · exact Or.inr (zk_o_t.mpr (Or.inr (zk_1_t.mpr cb2)))
          · rcases h a b ha hb (hW a ha ta ca ca2) (hW b hb tb cb cb2) gab with z | z
            · exact Or.inl (zk_o_t.mpr (Or.inl (zk_o_t.mpr (Or.inl z))))
            · exact Or.inr (zk_o_t.mpr (Or.inl (zk_o_t.mpr (Or.inl z))))
  · have d1 := zk_d_ins (zk_o C (zk_1 v)) hw
    have d2 := zk_d_ins C hv
    omega
theorem zk_df_lt2 {T v : Nat} (tv : T.testBit v = true) (hv : v < 8) : zk_df T (2 ^ v) < T := by
  refine Nat.lt_of_le_of_ne Nat.and_le_left (fun z => ?_)
  have q : (zk_df T (2 ^ v)).testBit v = false := by
    rw [zk_df_b hv, zk_pw_b, zk_1_t.mpr rfl]
    exact Bool.and_false _
  rw [z] at q
  exact zk_tf tv q
theorem zk_dp_t {T v i : Nat} (hi : i < 8) : (zk_df T (2 ^ v)).testBit i = true ↔ T.testBit i = true ∧ i ≠ v := by
  rw [zk_dp_b hi, zk_m_t, zk_1_f]
/-- the table below T -/
def zk_tab (J : Nat → Nat) (T : Nat) (a : Nat → Int32) : Prop := ∀ X, X < T → ∃ q, a X = nI q ∧ zk_PR (zk_g J) X.testBit q
section
variable {f0 : Int32} {a1 a2 a3 a4 a5 a6 a7 a8 a9 a10 : Nat → Int32}
theorem zk_mg53 {post : Int32 → St1 → Prop} {J : Nat → Nat} {J9 : Int32 → (Nat → Int32) → (Nat → Int32) → (Nat → Int32) → (Nat → Int32) → (Nat → Int32) → (Nat → Int32) → (Nat → Int32) → (Nat → Int32) → (Nat → Int32) → (Nat → Int32) → Prop} {T v : Nat} (hG : zk_G J) (hK : zk_K J a1) (hT : T < 256) (hv : v < 8) (tv : T.testBit v = true) (tl : ∀ i, i < v → T.testBit i = false) (tab : zk_tab J T a7)
    (HJ : ∀ a7', zk_tab J (T + 1) a7' → J9 (nI (T + 1)) a1 a2 a3 a4 a5 a6 a7' a8 a9 a10) :
    ∀ (n y q : Nat), y ≤ 8 → 8 - y < n → (∀ C, zk_cov (zk_g J) T.testBit C → q ≤ zk_d (zk_a C T.testBit)) → (∃ C, zk_cov (zk_g J) (zk_df T (2 ^ v)).testBit C ∧ zk_d C ≤ 2 * q) → (∀ w, w < y → (zk_df T (2 ^ v)).testBit w = true → zk_g J v w = true → ∃ C, zk_cov (zk_g J) (zk_df (zk_df T (2 ^ v)) (2 ^ w)).testBit C ∧ zk_d C + 2 ≤ 2 * q) → wX_matching_53 post J9 (nI T) (nI v) (nI (zk_df T (2 ^ v))) f0 a1 a2 a3 a4 a5 a6 a7 a8 a9 a10 n (nI q) (nI y) := by
  have hrt : zk_df T (2 ^ v) < T := zk_df_lt2 tv hv
  intro n
  induction n with
  | zero =>
    intro y q h1 h2
    omega
  | succ n ih =>
    intro y q hy hn hU hLr hLw
    have q8 := zk_PR_8 hU
    refine pk_le 8 y (fun z => ⟨pk_in T 256 hT, nm_r (e' := upd a7 T (nI q)) (by rw [nI_clamp (by omega), zk_s8 q (by omega)]) (nm_r (nI_1 T) (HJ _ (fun X hX => ?_)))⟩) (fun z => ⟨pk_in v 8 hv, ?_⟩)
    · by_cases cX : X = T
      · subst cX
        refine ⟨q, pk_us, hU, ?_⟩
        by_cases hex : ∃ w, w < 8 ∧ (zk_df X (2 ^ v)).testBit w = true ∧ zk_g J v w = true
        · obtain ⟨w, hw, rw0, gw⟩ := hex
          obtain ⟨C, hc, hd⟩ := hLw w (by omega) rw0 gw
          exact zk_cov_vw hv hw (fun i hi ti n1 n2 => (zk_dp_t hi).mpr ⟨(zk_dp_t hi).mpr ⟨ti, n1⟩, n2⟩) hc hd
        · obtain ⟨C, hc, hd⟩ := hLr
          exact ⟨C, zk_cov_v0 hG.2.1 hv (hG.2.2 v hv) (fun i hi ti n1 => (zk_dp_t hi).mpr ⟨ti, n1⟩) (fun w hw rw0 => zk_nt (fun gw => hex ⟨w, hw, rw0, gw⟩)) hc, hd⟩
      · obtain ⟨q', e', p'⟩ := tab X (by omega)
        exact ⟨q', by rw [pk_un cX]; exact e', p'⟩
    · have hr : zk_df T (2 ^ v) < 256 := by omega
      refine zk_in (zk_df T (2 ^ v) &&& J v) y (by rw [nI_clamp (by omega), hK v hv, zk_and]) rfl (zk_and_lt _ hr) z (fun b => br_t rfl (nm_r (nI_1 y) (ih (y + 1) q (by omega) (by omega) hU hLr (fun w hw rw0 gw => ?_)))) (fun b => br_f (by decide) ?_)
      · by_cases cw : w = y
        · subst cw
          rw [Nat.testBit_and, rw0] at b
          have gw' : (J v).testBit w = true := gw
          rw [gw'] at b
          exact Bool.noConfusion b
        · exact hLw w (by omega) rw0 gw
      · rw [Nat.testBit_and, Bool.and_eq_true] at b
        obtain ⟨ry, gy⟩ := b
        have hx : zk_df (zk_df T (2 ^ v)) (2 ^ y) < zk_df T (2 ^ v) := zk_df_lt2 ry z
        obtain ⟨p, ep, pU, C, hc, hd⟩ := tab (zk_df (zk_df T (2 ^ v)) (2 ^ y)) (by omega)
        have p8 := zk_PR_8 pU
        obtain ⟨ty, nyv⟩ := (zk_dp_t z).mp ry
        rw [zk_sh1 y z, zk_diff _ hr]
        refine ⟨pk_in (zk_df (zk_df T (2 ^ v)) (2 ^ y)) 256 (by omega), nm_r (e' := nI (1 + p)) (by rw [nI_clamp (by omega), ep, show (1 : Int32) = nI 1 from rfl, nI_add]) ?_⟩
        have hU' := zk_PR_w hv z tv ty gy (W := (zk_df (zk_df T (2 ^ v)) (2 ^ y)).testBit) (fun i hi wi => by
          obtain ⟨w1, w2⟩ := (zk_dp_t hi).mp wi
          obtain ⟨w3, w4⟩ := (zk_dp_t hi).mp w1
          exact ⟨w3, w4, w2⟩) pU
        refine pk_le (1 + p) q (fun c => nm_r (nI_1 y) (ih (y + 1) q (by omega) (by omega) hU hLr (fun w hw rw0 gw => ?_))) (fun c => nm_r (nI_1 y) (ih (y + 1) (1 + p) (by omega) (by omega) hU' ?_ (fun w hw rw0 gw => ?_)))
        · by_cases cw : w = y
          · subst cw
            exact ⟨C, hc, by omega⟩
          · exact hLw w (by omega) rw0 gw
        · obtain ⟨C', hc', hd'⟩ := hLr
          exact ⟨C', hc', by omega⟩
        · by_cases cw : w = y
          · subst cw
            exact ⟨C, hc, by omega⟩
          · obtain ⟨C', hc', hd'⟩ := hLw w (by omega) rw0 gw
            exact ⟨C', hc', by omega⟩
theorem zk_mg18 {post : Int32 → St1 → Prop} {J : Nat → Nat} {J9 : Int32 → (Nat → Int32) → (Nat → Int32) → (Nat → Int32) → (Nat → Int32) → (Nat → Int32) → (Nat → Int32) → (Nat → Int32) → (Nat → Int32) → (Nat → Int32) → (Nat → Int32) → Prop} {T v0 : Nat} (hG : zk_G J) (hK : zk_K J a1) (hT : T < 256) (hv0 : v0 < 8) (tv0 : T.testBit v0 = true) (tab : zk_tab J T a7)
    (HJ : ∀ a7', zk_tab J (T + 1) a7' → J9 (nI (T + 1)) a1 a2 a3 a4 a5 a6 a7' a8 a9 a10) :
    ∀ (n v : Nat), v ≤ v0 → 8 - v < n → (∀ i, i < v → T.testBit i = false) → wX_matching_18 post J9 (nI T) f0 a1 a2 a3 a4 a5 a6 a7 a8 a9 a10 n (nI v) := by
  intro n
  induction n with
  | zero =>
    intro v h1 h2
    omega
  | succ n ih =>
    intro v hv hn hl
    unfold wX_matching_18
    refine zk_in T v rfl rfl hT (by omega) (fun b => br_t rfl (nm_r (nI_1 v) (ih (v + 1) ?_ (by omega) (fun i hi => ?_)))) (fun b => br_f (by decide) ?_)
    · have : v ≠ v0 := fun c => by rw [← c] at tv0; exact zk_tf tv0 b
      omega
    · by_cases c : i = v
      · rw [c]
        exact b
      · exact hl i (by omega)
    · have hv8 : v < 8 := by omega
      have hrt : zk_df T (2 ^ v) < T := zk_df_lt2 b hv8
      obtain ⟨q, eq, pU, pC⟩ := tab _ hrt
      refine nm_r (e' := nI (zk_df T (2 ^ v))) (by rw [zk_sh1 v hv8, zk_diff _ hT]) ⟨pk_in (zk_df T (2 ^ v)) 256 (by omega), nm_r (e' := nI q) (by rw [nI_clamp (by omega)]; exact eq) (nm_r (nI_1 v) ⟨9, zk_mg53 hG hK hT hv8 b hl tab HJ 9 (v + 1) q (by omega) (by omega) (zk_PR_sub (fun i hi z => ((zk_dp_t hi).mp z).1) pU) pC (fun w hw rw0 gw => ?_)⟩)⟩
      have := (zk_dp_t (show w < 8 by omega)).mp rw0
      by_cases c : w < v
      · exact (zk_tf this.1 (hl w c)).elim
      · omega
end
theorem zk_mg9 {post : Int32 → St1 → Prop} {J : Nat → Nat} {f0 : Int32} {a1 a2 a3 a4 a5 a6 a8 a9 a10 : Nat → Int32} (hG : zk_G J) (hK : zk_K J a1) (H : ∀ p u', p ≤ zk_tau (zk_g J) zk_al → zk_tau (zk_g J) zk_al ≤ 2 * p → zk_U J u' → post (nI p) u') : ∀ (n T : Nat) (a7 : Nat → Int32), 1 ≤ T → T ≤ 256 → 256 - T < n → zk_tab J T a7 → wX_matching_9 post f0 n (nI T) a1 a2 a3 a4 a5 a6 a7 a8 a9 a10 := by
  intro n
  induction n with
  | zero =>
    intro T a7 h1 h2 h3
    omega
  | succ n ih =>
    intro T a7 h1 h2 hn tab
    refine pk_lt 255 T (fun z => ?_) (fun z => ?_)
    · obtain ⟨q, eq, pU, C, hc, hd⟩ := tab 255 z
      rw [eq]
      refine H q _ ?_ ?_ hK
      · obtain ⟨C', hc', e'⟩ := zk_tau_ex (zk_g J) zk_al
        rw [← e']
        exact Nat.le_trans (pU C' (zk_cov_sub hc' (fun _ _ _ => rfl))) (zk_d_le (fun i _ z => (zk_a_t.mp z).1))
      · exact Nat.le_trans (zk_tau_le (zk_cov_sub hc (fun i hi _ => zk_255 hi))) hd
    · obtain ⟨v0, hv0, tv0⟩ := zk_nz (S := T) (by omega) (by omega)
      exact ⟨9, zk_mg18 hG hK (by omega) hv0 tv0 tab (fun a7' tab' => ih (T + 1) a7' (by omega) (by omega) (by omega) tab') 9 0 (by omega) (by omega) (fun i hi => absurd hi (by omega))⟩
theorem zk_matching {post : Int32 → St1 → Prop} {J : Nat → Nat} {u : St1} (hG : zk_G J) (hu : zk_U J u) (H : ∀ p u', p ≤ zk_tau (zk_g J) zk_al → zk_tau (zk_g J) zk_al ≤ 2 * p → zk_U J u' → post (nI p) u') : wpX_matching post u := by
  obtain ⟨f0, a1, a2, a3, a4, a5, a6, a7, a8, a9, a10⟩ := u
  unfold wpX_matching
  dsimp only
  refine nm_e ⟨256, zk_mg9 hG hu H 256 1 _ (by omega) (by omega) (by omega) (fun X hX => ⟨0, ?_, fun C _ => Nat.zero_le _, fun _ => false, fun a b ha hb ta => ?_, ?_⟩)⟩
  · have : X = 0 := by omega
    rw [this, pk_us]
    rfl
  · have : X = 0 := by omega
    rw [this, Nat.zero_testBit] at ta
    exact Bool.noConfusion ta
  · rw [zk_d_none (fun _ _ => rfl)]
    exact Nat.zero_le _
end
section
/-! tightCovers: a stack of (have, can, before), the top first -/
def zk_Tt (a8 a9 a10 : Nat → Int32) : List (Nat × Nat × Nat) → Prop
  | [] => True
  | p :: r => (a8 r.length = nI p.1 ∧ a9 r.length = nI p.2.1 ∧ a10 r.length = nI p.2.2 ∧ p.1 < 256 ∧ p.2.1 < 256 ∧ p.2.2 < 256 ∧ zk_d p.2.1.testBit + r.length ≤ 8) ∧ zk_Tt a8 a9 a10 r
theorem zk_Tt_fr {a8 a9 a10 : Nat → Int32} {k : Nat} {x y z : Int32} : ∀ (r : List (Nat × Nat × Nat)), r.length ≤ k → zk_Tt a8 a9 a10 r → zk_Tt (upd a8 k x) (upd a9 k y) (upd a10 k z) r := by
  intro r
  induction r with
  | nil => exact fun _ _ => trivial
  | cons p r ih =>
    intro hk h
    have hk' : r.length + 1 ≤ k := hk
    refine ⟨?_, ih (by omega) h.2⟩
    rw [pk_un (show r.length ≠ k by omega), pk_un (show r.length ≠ k by omega), pk_un (show r.length ≠ k by omega)]
    exact h.1
theorem zk_Tt_add {a8 a9 a10 : Nat → Int32} {r : List (Nat × Nat × Nat)} (h : zk_Tt a8 a9 a10 r) (hv cn bf : Nat) (h1 : hv < 256) (h2 : cn < 256) (h3 : bf < 256) (h4 : zk_d cn.testBit + r.length ≤ 8) : zk_Tt (upd a8 r.length (nI hv)) (upd a9 r.length (nI cn)) (upd a10 r.length (nI bf)) ((hv, cn, bf) :: r) :=
  ⟨⟨pk_us, pk_us, pk_us, h1, h2, h3, h4⟩, zk_Tt_fr r (Nat.le_refl _) h⟩
theorem zk_pushSet {post : St1 → Prop} {f0 : Int32} {a1 a2 a3 a4 a5 a6 a7 a8 a9 a10 : Nat → Int32} {p0 p1 p2 p3 : Int32} (b hv cn bf : Nat) (hp0 : p0 = nI b) (hp1 : p1 = nI hv) (hp2 : p2 = nI cn) (hp3 : p3 = nI bf) (hb : b < 64) (h1 : hv < 256) (h2 : cn < 256) (h3 : bf < 256) (h : post (f0, a1, a2, a3, a4, a5, a6, a7, upd a8 b (nI hv), upd a9 b (nI cn), upd a10 b (nI bf))) : wpX_pushSet post (f0, a1, a2, a3, a4, a5, a6, a7, a8, a9, a10) p0 p1 p2 p3 := by
  subst hp0 hp1 hp2 hp3
  refine ⟨pk_in b 64 hb, nm_r (e' := upd a8 b (nI hv)) ?_ ⟨pk_in b 64 hb, nm_r (e' := upd a9 b (nI cn)) ?_ ⟨pk_in b 64 hb, nm_r (e' := upd a10 b (nI bf)) ?_ h⟩⟩⟩
  · rw [nI_clamp (by omega), zk_s16 hv h1]
  · rw [nI_clamp (by omega), zk_s16 cn h2]
  · rw [nI_clamp (by omega), zk_s16 bf h3]
def zk_ap (J v : Nat) : Nat := zk_df (zk_df 255 J) (2 ^ v)
theorem zk_ap_lt (J v : Nat) : zk_ap J v < 256 := zk_df_lt _ (zk_df_lt _ (by omega))
theorem zk_tc78 {post : Int32 → St1 → Prop} {J : Nat → Nat} {J16 : Int32 → Int32 → Int32 → Int32 → (Nat → Int32) → (Nat → Int32) → (Nat → Int32) → (Nat → Int32) → (Nat → Int32) → (Nat → Int32) → (Nat → Int32) → (Nat → Int32) → (Nat → Int32) → (Nat → Int32) → Prop} {x1 x3 f0 : Int32} {k b hv cn bf v0 : Nat} {a1 a2 a3 a4 a5 a6 a7 a8 a9 a10 : Nat → Int32} (hG : zk_G J) (hK : zk_K J a1) (hx3 : x3 = nI k) (hb : b < 63) (h1 : hv < 256) (h2 : cn < 256) (h3 : bf < 256) (hv0 : v0 < 8) (cv0 : cn.testBit v0 = true)
    (HJ : ∀ v, v < 8 → cn.testBit v = true → J16 x1 (nI (b + 2)) (nI (k + 1)) f0 a1 a2 a3 a4 a5 a6 a7 (upd (upd a8 b (nI hv)) (b + 1) (nI (hv ||| 2 ^ v))) (upd (upd a9 b (nI (zk_df cn (2 ^ v)))) (b + 1) (nI (cn &&& zk_ap (J v) v))) (upd (upd a10 b (nI (bf ||| 2 ^ v))) (b + 1) (nI (bf &&& zk_ap (J v) v)))) :
    ∀ (n v : Nat), v ≤ v0 → 8 - v < n → wX_tightCovers_78 post J16 x1 (nI b) x3 (nI cn) (nI hv) (nI bf) f0 a1 a2 a3 a4 a5 a6 a7 a8 a9 a10 n (nI v) := by
  subst hx3
  intro n
  induction n with
  | zero =>
    intro v g1 g2
    omega
  | succ n ih =>
    intro v hv' hn
    unfold wX_tightCovers_78
    have v8 : v < 8 := by omega
    refine zk_in cn v rfl rfl h2 v8 (fun q => br_t rfl (nm_r (nI_1 v) (ih (v + 1) ?_ (by omega)))) (fun q => br_f (by decide) ⟨pk_in v 8 v8, ?_⟩)
    · have : v ≠ v0 := fun c => by rw [← c] at cv0; exact zk_tf cv0 q
      omega
    · have ho : zk_df 255 (J v) < 256 := zk_df_lt _ (by omega)
      refine nm_r (e' := nI (zk_ap (J v) v)) (by rw [nI_clamp (by omega), hK v v8, zk_sh1 v v8, show (255 : Int32) = nI 255 from rfl, zk_diff _ (by omega), zk_diff _ ho]; rfl) ?_
      refine zk_pushSet b hv (zk_df cn (2 ^ v)) (bf ||| 2 ^ v) rfl rfl (by rw [zk_sh1 v v8, zk_diff _ h2]) (by rw [zk_sh1 v v8, zk_or]) (by omega) h1 (zk_df_lt _ h2) (zk_or_lt h3 (zk_pw v v8)) ?_
      refine zk_pushSet (b + 1) (hv ||| 2 ^ v) (cn &&& zk_ap (J v) v) (bf &&& zk_ap (J v) v) (nI_1 b) (by rw [zk_sh1 v v8, zk_or]) (zk_and _ _) (zk_and _ _) (by omega) (zk_or_lt h1 (zk_pw v v8)) (zk_and_lt _ h2) (zk_and_lt _ h3) ?_
      exact nm_r (e' := nI (b + 2)) (by rw [show (2 : Int32) = nI 2 from rfl, nI_add]) (nm_r (nI_1 k) (HJ v v8 q))
/-- none is counted yet: the top's before is empty, and few rounds have passed -/
def zk_tp (k : Nat) : List (Nat × Nat × Nat) → Prop
  | [] => False
  | p :: _ => p.2.2 = 0 ∧ k + zk_d p.2.1.testBit ≤ 8
theorem zk_tc16 {post : Int32 → St1 → Prop} {J : Nat → Nat} (hG : zk_G J) (H : ∀ c u', 1 ≤ c → c ≤ 512 → zk_U J u' → post (nI c) u') : ∀ (n k c : Nat) (st : List (Nat × Nat × Nat)) (f0 : Int32) (a1 a2 a3 a4 a5 a6 a7 a8 a9 a10 : Nat → Int32), 512 - k < n → k ≤ 512 → c ≤ k → (1 ≤ c ∨ zk_tp k st) → zk_K J a1 → zk_Tt a8 a9 a10 st → wX_tightCovers_16 post n (nI c) (nI st.length) (nI k) f0 a1 a2 a3 a4 a5 a6 a7 a8 a9 a10 := by
  intro n
  induction n with
  | zero =>
    intro k c st f0 a1 a2 a3 a4 a5 a6 a7 a8 a9 a10 g1
    omega
  | succ n ih =>
    intro k c st f0 a1 a2 a3 a4 a5 a6 a7 a8 a9 a10 hn hk hck hI hK hT
    cases st with
    | nil =>
      have c1 : 1 ≤ c := hI.elim id (fun z => z.elim)
      exact pk_le 512 k (fun _ => H c _ c1 (by omega) hK) (fun _ => pk_le 0 0 (fun _ => H c _ c1 (by omega) hK) (fun z => absurd z (by omega)))
    | cons p r =>
      obtain ⟨hv, cn, bf⟩ := p
      obtain ⟨⟨e8, e9, e10, h1, h2, h3, h4⟩, hr⟩ := hT
      dsimp only at e8 e9 e10 h1 h2 h3 h4
      have hI' : 1 ≤ c ∨ (bf = 0 ∧ k + zk_d cn.testBit ≤ 8) := hI
      refine pk_le 512 k (fun z => H c _ (by omega) (by omega) hK) (fun z => pk_le (r.length + 1) 0 (fun q => absurd q (by omega)) (fun _ => nm_r (pk_m1 r.length) ⟨pk_in r.length 64 (by omega), nm_r (e' := nI cn) (by rw [nI_clamp (by omega)]; exact e9) ⟨pk_in r.length 64 (by omega), nm_r (e' := nI hv) (by rw [nI_clamp (by omega)]; exact e8) ⟨pk_in r.length 64 (by omega), nm_r (e' := nI bf) (by rw [nI_clamp (by omega)]; exact e10) ?_⟩⟩⟩))
      refine zk_if0 cn rfl h2 (fun cz => ?_) (fun cz => ?_)
      · refine pk_eq bf 0 (fun b0 => nm_r (nI_1 c) (nm_r (nI_1 k) (ih (k + 1) (c + 1) r _ _ _ _ _ _ _ _ _ _ _ (by omega) (by omega) (by omega) (Or.inl (by omega)) hK hr))) (fun b0 => nm_r (e' := nI c) (by rw [← nI_0, nI_add, Nat.add_zero]) (nm_r (nI_1 k) (ih (k + 1) c r _ _ _ _ _ _ _ _ _ _ _ (by omega) (by omega) (by omega) (Or.inl (by omega)) hK hr)))
      · obtain ⟨v0, hv0, cv0⟩ := cz
        refine ⟨9, zk_tc78 hG hK rfl (by omega) h1 h2 h3 hv0 cv0 (fun v v8 cv => ?_) 9 0 (by omega) (by omega)⟩
        have dd : zk_d cn.testBit = zk_d (zk_df cn (2 ^ v)).testBit + 1 := by
          rw [zk_d_eq (A := (zk_df cn (2 ^ v)).testBit) (fun i hi => zk_dp_b hi)]
          exact zk_d_del v8 cv
        have d2 : zk_d (cn &&& zk_ap (J v) v).testBit ≤ zk_d (zk_df cn (2 ^ v)).testBit := zk_d_le (fun i hi z => by
          rw [Nat.testBit_and, Bool.and_eq_true] at z
          obtain ⟨z1, z2⟩ := z
          refine (zk_dp_t hi).mpr ⟨z1, ?_⟩
          exact ((zk_dp_t hi).mp z2).2)
        refine ih (k + 1) c ((hv ||| 2 ^ v, cn &&& zk_ap (J v) v, bf &&& zk_ap (J v) v) :: (hv, zk_df cn (2 ^ v), bf ||| 2 ^ v) :: r) _ _ _ _ _ _ _ _ _ _ _ (by omega) (by omega) (by omega) ?_ hK (zk_Tt_add (r := (hv, zk_df cn (2 ^ v), bf ||| 2 ^ v) :: r) (zk_Tt_add hr _ _ _ h1 (zk_df_lt _ h2) (zk_or_lt h3 (zk_pw v v8)) (by omega)) _ _ _ (zk_or_lt h1 (zk_pw v v8)) (zk_and_lt _ h2) (zk_and_lt _ h3) ?_)
        · rcases hI' with q | ⟨q1, q2⟩
          · exact Or.inl q
          · refine Or.inr ⟨?_, ?_⟩
            · show bf &&& zk_ap (J v) v = 0
              rw [q1]
              exact Nat.zero_and _
            · show k + 1 + zk_d (cn &&& zk_ap (J v) v).testBit ≤ 8
              omega
        · show zk_d (cn &&& zk_ap (J v) v).testBit + (r.length + 1) ≤ 8
          omega
theorem zk_tight {post : Int32 → St1 → Prop} {J : Nat → Nat} {u : St1} (hG : zk_G J) (hu : zk_U J u) (H : ∀ c u', 1 ≤ c → c ≤ 512 → zk_U J u' → post (nI c) u') : wpX_tightCovers post u := by
  obtain ⟨f0, a1, a2, a3, a4, a5, a6, a7, a8, a9, a10⟩ := u
  unfold wpX_tightCovers
  dsimp only
  have d8 := zk_d_8 (255 : Nat).testBit
  refine zk_pushSet 0 0 255 0 rfl rfl rfl rfl (by omega) (by omega) (by omega) (by omega) ⟨513, zk_tc16 hG H 513 0 0 [(0, 255, 0)] _ _ _ _ _ _ _ _ _ _ _ (by omega) (by omega) (by omega) (Or.inr ⟨rfl, ?_⟩) hu (zk_Tt_add (r := []) trivial 0 255 0 (by omega) (by omega) (by omega) ?_)⟩
  · show 0 + zk_d (255 : Nat).testBit ≤ 8
    omega
  · show zk_d (255 : Nat).testBit + 0 ≤ 8
    omega
end
section
/-! join -/
theorem zk_G_on {J : Nat → Nat} {a b : Nat} (hG : zk_G J) (ha : a < 8) (hb : b < 8) (n : a ≠ b) : zk_G (zk_up (zk_up J a (J a ||| 2 ^ b)) b (J b ||| 2 ^ a)) := by
  obtain ⟨g1, g2, g3⟩ := hG
  have bits : ∀ u w, u < 8 → w < 8 → (zk_g (zk_up (zk_up J a (J a ||| 2 ^ b)) b (J b ||| 2 ^ a)) u w = true ↔ zk_g J u w = true ∨ (u = a ∧ w = b) ∨ (u = b ∧ w = a)) := fun u w hu hw => by
    unfold zk_g
    by_cases cb : u = b
    · subst cb
      rw [zk_up_s, zk_or_b]
      constructor
      · rintro (z | z)
        · exact Or.inl z
        · exact Or.inr (Or.inr ⟨rfl, z⟩)
      · rintro (z | ⟨z, _⟩ | ⟨_, z⟩)
        · exact Or.inl z
        · exact absurd z.symm n
        · exact Or.inr z
    · rw [zk_up_n cb]
      by_cases ca : u = a
      · subst ca
        rw [zk_up_s, zk_or_b]
        constructor
        · rintro (z | z)
          · exact Or.inl z
          · exact Or.inr (Or.inl ⟨rfl, z⟩)
        · rintro (z | ⟨_, z⟩ | ⟨z, _⟩)
          · exact Or.inl z
          · exact Or.inr z
          · exact absurd z n
      · rw [zk_up_n ca]
        constructor
        · exact Or.inl
        · rintro (z | ⟨z, _⟩ | ⟨z, _⟩)
          · exact z
          · exact absurd z ca
          · exact absurd z cb
  refine ⟨fun v hv => ?_, fun u w hu hw z => ?_, fun v hv => zk_nt (fun z => ?_)⟩
  · by_cases cb : v = b
    · subst cb
      rw [zk_up_s]
      exact zk_or_lt (g1 v hv) (zk_pw a ha)
    · rw [zk_up_n cb]
      by_cases ca : v = a
      · subst ca
        rw [zk_up_s]
        exact zk_or_lt (g1 v hv) (zk_pw b hb)
      · rw [zk_up_n ca]
        exact g1 v hv
  · rw [bits w u hw hu]
    rcases (bits u w hu hw).mp z with q | ⟨q1, q2⟩ | ⟨q1, q2⟩
    · exact Or.inl (g2 u w hu hw q)
    · exact Or.inr (Or.inr ⟨q2, q1⟩)
    · exact Or.inr (Or.inl ⟨q2, q1⟩)
  · rcases (bits v v hv hv).mp z with q | ⟨q1, q2⟩ | ⟨q1, q2⟩
    · exact zk_tf q (g3 v hv)
    · exact n (by rw [← q1, ← q2])
    · exact n (by rw [← q1, ← q2])
theorem zk_G_off {J : Nat → Nat} {a b : Nat} (hG : zk_G J) (ha : a < 8) (hb : b < 8) (n : a ≠ b) : zk_G (zk_up (zk_up J a (zk_df (J a) (2 ^ b))) b (zk_df (J b) (2 ^ a))) := by
  obtain ⟨g1, g2, g3⟩ := hG
  have bits : ∀ u w, u < 8 → w < 8 → (zk_g (zk_up (zk_up J a (zk_df (J a) (2 ^ b))) b (zk_df (J b) (2 ^ a))) u w = true ↔ zk_g J u w = true ∧ ¬ (u = a ∧ w = b) ∧ ¬ (u = b ∧ w = a)) := fun u w hu hw => by
    unfold zk_g
    by_cases cb : u = b
    · subst cb
      rw [zk_up_s, zk_dp_t hw]
      constructor
      · rintro ⟨z1, z2⟩
        exact ⟨z1, fun q => n q.1.symm, fun q => z2 q.2⟩
      · rintro ⟨z1, _, z2⟩
        exact ⟨z1, fun q => z2 ⟨rfl, q⟩⟩
    · rw [zk_up_n cb]
      by_cases ca : u = a
      · subst ca
        rw [zk_up_s, zk_dp_t hw]
        constructor
        · rintro ⟨z1, z2⟩
          exact ⟨z1, fun q => z2 q.2, fun q => n q.1⟩
        · rintro ⟨z1, z2, _⟩
          exact ⟨z1, fun q => z2 ⟨rfl, q⟩⟩
      · rw [zk_up_n ca]
        exact ⟨fun z => ⟨z, fun q => ca q.1, fun q => cb q.1⟩, fun z => z.1⟩
  refine ⟨fun v hv => ?_, fun u w hu hw z => ?_, fun v hv => zk_nt (fun z => ?_)⟩
  · by_cases cb : v = b
    · subst cb
      rw [zk_up_s]
      exact zk_df_lt _ (g1 v hv)
    · rw [zk_up_n cb]
      by_cases ca : v = a
      · subst ca
        rw [zk_up_s]
        exact zk_df_lt _ (g1 v hv)
      · rw [zk_up_n ca]
        exact g1 v hv
  · rw [bits w u hw hu]
    obtain ⟨q1, q2, q3⟩ := (bits u w hu hw).mp z
    exact ⟨g2 u w hu hw q1, fun q => q3 ⟨q.2, q.1⟩, fun q => q2 ⟨q.2, q.1⟩⟩
  · exact zk_tf ((bits v v hv hv).mp z).1 (g3 v hv)
theorem zk_K_up {J : Nat → Nat} {a : Nat → Int32} {k x : Nat} (h : zk_K J a) : zk_K (zk_up J k x) (upd a k (nI x)) := by
  intro v hv
  by_cases c : v = k
  · rw [c, pk_us, zk_up_s]
  · rw [pk_un c, zk_up_n c]
    exact h v hv
theorem zk_join {post : Int32 → St1 → Prop} {J : Nat → Nat} {a b : Nat} {p0 p1 p2 : Int32} {u : St1} (hp0 : p0 = nI a) (hp1 : p1 = nI b) (ha : a < 8) (hb : b < 8) (n : a ≠ b) (hG : zk_G J) (hu : zk_U J u) (H : ∀ J' u', zk_G J' → zk_U J' u' → post 1 u') : wpX_join post u p0 p1 p2 := by
  obtain ⟨f0, a1, a2, a3, a4, a5, a6, a7, a8, a9, a10⟩ := u
  subst hp0 hp1
  unfold wpX_join
  dsimp only
  have hK : zk_K J a1 := hu
  have na : nI a ≠ nI b := fun z => n ((nI_eq (by omega) (by omega)).mp z)
  refine zk_isVertex rfl ha (br_f (by decide) (zk_isVertex rfl hb (br_f (by decide) (br_f na ?_))))
  by_cases c : p2 = 0
  · have va := zk_df_lt (2 ^ b) (hG.1 a ha)
    have vb := zk_df_lt (2 ^ a) (hG.1 b hb)
    refine br_t c ⟨pk_in a 8 ha, pk_in a 8 ha, nm_r (e' := upd a1 a (nI (zk_df (J a) (2 ^ b)))) ?_ (br_t c ⟨pk_in b 8 hb, pk_in b 8 hb, nm_r (e' := upd (upd a1 a (nI (zk_df (J a) (2 ^ b)))) b (nI (zk_df (J b) (2 ^ a)))) ?_ (H _ _ (zk_G_off hG ha hb n) (zk_K_up (zk_K_up hK)))⟩)⟩
    · rw [nI_clamp (by omega), hK a ha, zk_sh1 b hb, zk_diff _ (hG.1 a ha), zk_s16 _ va]
    · rw [nI_clamp (by omega), pk_un (fun z => n z.symm), hK b hb, zk_sh1 a ha, zk_diff _ (hG.1 b hb), zk_s16 _ vb]
  · have va := zk_or_lt (hG.1 a ha) (zk_pw b hb)
    have vb := zk_or_lt (hG.1 b hb) (zk_pw a ha)
    refine br_f c ⟨pk_in a 8 ha, pk_in a 8 ha, nm_r (e' := upd a1 a (nI (J a ||| 2 ^ b))) ?_ (br_f c ⟨pk_in b 8 hb, pk_in b 8 hb, nm_r (e' := upd (upd a1 a (nI (J a ||| 2 ^ b))) b (nI (J b ||| 2 ^ a))) ?_ (H _ _ (zk_G_on hG ha hb n) (zk_K_up (zk_K_up hK)))⟩)⟩
    · rw [nI_clamp (by omega), hK a ha, zk_sh1 b hb, zk_or, zk_s16 _ va]
    · rw [nI_clamp (by omega), pk_un (fun z => n z.symm), hK b hb, zk_sh1 a ha, zk_or, zk_s16 _ vb]
/-! numbers -/
theorem zk_n57 {post : Int32 → St1 → Prop} {J : Nat → Nat} {I p : Nat} {f0 : Int32} {a1 a2 a3 a4 a5 a6 a7 a8 a9 a10 : Nat → Int32} (hG : zk_G J) (hK : zk_K J a1) (hI : I < 256) (hc : zk_cov (zk_g J) zk_al I.testBit) (hd : zk_d I.testBit = zk_tau (zk_g J) zk_al) (p1 : p ≤ zk_tau (zk_g J) zk_al) (p2 : zk_tau (zk_g J) zk_al ≤ 2 * p) (H : ∀ u', zk_U J u' → post 1 u') : wL_numbers_57 post (nI (zk_tau (zk_g J) zk_al)) (nI I) (nI (zk_h (zk_g J))) (nI p) (nI (zk_d I.testBit)) 1 f0 a1 a2 a3 a4 a5 a6 a7 a8 a9 a10 := by
  have d8 := zk_d_8 I.testBit
  have h8 := zk_h_b (zk_g J)
  have hh : zk_h (zk_g J) ≤ 2 * zk_d I.testBit := zk_hC hc
  have tight : ∀ u', zk_U J u' → wL_numbers_114 post 1 1 u'.1 u'.2.1 u'.2.2.1 u'.2.2.2.1 u'.2.2.2.2.1 u'.2.2.2.2.2.1 u'.2.2.2.2.2.2.1 u'.2.2.2.2.2.2.2.1 u'.2.2.2.2.2.2.2.2.1 u'.2.2.2.2.2.2.2.2.2.1 u'.2.2.2.2.2.2.2.2.2.2 ∧ wL_numbers_114 post 0 0 u'.1 u'.2.1 u'.2.2.1 u'.2.2.2.1 u'.2.2.2.2.1 u'.2.2.2.2.2.1 u'.2.2.2.2.2.2.1 u'.2.2.2.2.2.2.2.1 u'.2.2.2.2.2.2.2.2.1 u'.2.2.2.2.2.2.2.2.2.1 u'.2.2.2.2.2.2.2.2.2.2 := fun u' hu' => by
    constructor
    · refine br_t rfl (zk_tight hG hu' (fun c u2 c1 c2 hu2 => ?_))
      obtain ⟨b0, b1, b2, b3, b4, b5, b6, b7, b8, b9, b10⟩ := u2
      exact pk_lt c 1 (fun z => absurd z (by omega)) (fun _ => H _ hu2)
    · refine br_t rfl (zk_tight hG hu' (fun c u2 c1 c2 hu2 => ?_))
      obtain ⟨b0, b1, b2, b3, b4, b5, b6, b7, b8, b9, b10⟩ := u2
      exact pk_lt c 1 (fun z => absurd z (by omega)) (fun _ => H _ hu2)
  unfold wL_numbers_57
  refine zk_covers rfl hG hK hI hc (br_f (by decide) (pk_eq (zk_d I.testBit) (zk_tau (zk_g J) zk_al) (fun _ => ?_) (fun z => absurd hd z)))
  refine pk_lt (2 * zk_tau (zk_g J) zk_al) (zk_h (zk_g J)) (fun z => absurd z (by omega)) (fun _ => ?_) (pk_mul 2 _)
  refine pk_lt (2 * p) (zk_tau (zk_g J) zk_al) (fun z => absurd z (by omega)) (fun _ => ?_) (pk_mul 2 _)
  refine pk_lt (zk_tau (zk_g J) zk_al) p (fun z => absurd z (by omega)) (fun _ => ?_)
  refine br_f (by decide) (zk_evenly hG hK (fun z u2 hu2 => ?_) (fun z u2 hu2 => ?_))
  · obtain ⟨b0, b1, b2, b3, b4, b5, b6, b7, b8, b9, b10⟩ := u2
    exact pk_eq (zk_h (zk_g J)) 8 (fun q => absurd q z) (fun _ => (tight _ hu2).2)
  · obtain ⟨b0, b1, b2, b3, b4, b5, b6, b7, b8, b9, b10⟩ := u2
    exact pk_eq (zk_h (zk_g J)) 8 (fun _ => (tight _ hu2).1) (fun q => absurd z q)
theorem zk_numbers {post : Int32 → St1 → Prop} {J : Nat → Nat} {u : St1} (hG : zk_G J) (hu : zk_U J u) (H : ∀ u', zk_U J u' → post 1 u') : wpL_numbers post u := by
  obtain ⟨f0, a1, a2, a3, a4, a5, a6, a7, a8, a9, a10⟩ := u
  unfold wpL_numbers
  dsimp only
  have h8 := zk_h_b (zk_g J)
  have t8 : zk_tau (zk_g J) zk_al ≤ 8 := Nat.le_trans (zk_tau_d _ _) (zk_d_8 _)
  refine zk_least hG hu (fun u1 hu1 => ?_)
  obtain ⟨b0, b1, b2, b3, b4, b5, b6, b7, b8, b9, b10⟩ := u1
  refine zk_leastCover hG hu1 (fun I u2 hI hc hd hu2 => ?_)
  obtain ⟨c0, c1, c2, c3, c4, c5, c6, c7, c8, c9, c10⟩ := u2
  refine zk_halves hG hu2 (fun u3 hu3 => ?_)
  obtain ⟨d0, d1, d2, d3, d4, d5, d6, d7, d8, d9, d10⟩ := u3
  refine zk_matching hG hu3 (fun p u4 p1 p2 hu4 => ?_)
  obtain ⟨e0, e1, e2, e3, e4, e5, e6, e7, e8, e9, e10⟩ := u4
  refine zk_whole hG hu4 (fun W u5 hW wb hu5 => ?_)
  obtain ⟨g0, g1, g2, g3, g4, g5, g6, g7, g8, g9, g10⟩ := u5
  refine zk_Lones I rfl hI (pk_eq (zk_h (zk_g J)) (2 * zk_tau (zk_g J) zk_al) (fun he => ?_) (fun _ => zk_n57 hG hu5 hI hc hd p1 p2 H) rfl (pk_mul 2 _))
  refine zk_always hG hu5 (fun A u6 hA ab hu6 => ?_)
  obtain ⟨k0, k1, k2, k3, k4, k5, k6, k7, k8, k9, k10⟩ := u6
  refine zk_if0 (zk_df W A) (zk_diff _ hW) (zk_df_lt _ hW) (fun _ => zk_n57 hG hu6 hI hc hd p1 p2 H) (fun z => ?_)
  obtain ⟨i, hi, z⟩ := z
  rw [zk_df_b hi] at z
  have z2 : W.testBit i = true ∧ A.testBit i = false := zk_m_t.mp z
  have nn : zk_some J 0 (2 ^ i) := Classical.byContradiction (fun q => zk_tf ((ab i hi).mpr q) z2.2)
  obtain ⟨C, ⟨cc, _, co⟩, cd⟩ := nn
  have ci : C i = false := co i hi Nat.testBit_two_pow_self
  exact absurd (zk_within hG.2.1 hi cc ci cd he) ((wb i hi).mp z2.1).1
end
section
/-! vertex -/
theorem zk_bit1 {A B : Prop} {x : Int32} (S v : Nat) (hx : x = nI S) (hS : S < 256) (hv : v < 8) (f : S.testBit v = true → A) (g : S.testBit v = false → B) : (((x >>> (nI v &&& 31)) &&& 1) = 1 → A) ∧ (¬ ((x >>> (nI v &&& 31)) &&& 1) = 1 → B) := by
  subst hx
  rw [zk_bit hS hv]
  cases e : S.testBit v with
  | false => exact br_f (by decide) (g e)
  | true => exact br_t (by decide) (f e)
section
variable {post : Int32 → St1 → Prop} {f0 : Int32} {a1 a2 a3 a4 a5 a6 a7 a8 a9 a10 : Nat → Int32}
/-- the last three checks, by the three bits -/
theorem zk_v161 {x7 x8 x9 x10 x11 : Int32} {z : Int32} (h : (x7 = 1 ∧ x8 = 0 ∧ x9 = 0 ∧ x10 = 0 ∧ x11 = 1) ∨ (x7 = 1 ∧ x8 = 0 ∧ x9 = 1 ∧ x10 = 0 ∧ x11 = 0) ∨ (x7 = 1 ∧ x8 = 1 ∧ x9 = 0 ∧ x10 = 0 ∧ x11 = 0) ∨ (x7 = 1 ∧ x8 = 1 ∧ x9 = 1 ∧ x10 = 0 ∧ x11 = 0) ∨ (x7 = 0 ∧ x8 = 0 ∧ x9 = 1 ∧ x10 = 1 ∧ x11 = 0) ∨ (x7 = 0 ∧ x8 = 1 ∧ x9 = 0 ∧ x10 = 0 ∧ x11 = 0) ∨ (x7 = 0 ∧ x8 = 1 ∧ x9 = 1 ∧ x10 = 0 ∧ x11 = 0)) (H : post 1 (f0, a1, a2, a3, a4, a5, a6, a7, a8, a9, a10)) : wL_vertex_161 post x7 x8 x9 x10 x11 z z f0 a1 a2 a3 a4 a5 a6 a7 a8 a9 a10 := by
  refine br_t rfl ?_
  rcases h with ⟨e7, e8, e9, e10, e11⟩ | ⟨e7, e8, e9, e10, e11⟩ | ⟨e7, e8, e9, e10, e11⟩ | ⟨e7, e8, e9, e10, e11⟩ | ⟨e7, e8, e9, e10, e11⟩ | ⟨e7, e8, e9, e10, e11⟩ | ⟨e7, e8, e9, e10, e11⟩
  all_goals
    subst e7 e8 e9 e10 e11
    repeat first
      | exact H
      | refine br_t rfl ?_
      | refine br_f (by decide) ?_
theorem zk_v140 {t : Nat} {x4 x6 x7 x8 x9 x10 x11 z : Int32} (ht : t ≤ 8) (h4 : x4 = -1 ∨ ∃ n, n ≤ 8 ∧ x4 = nI n ∧ t ≤ n) (h6 : (x6 = 1 ∧ x4 ≠ nI t) ∨ (x6 = 0 ∧ x4 = nI t)) (H : ∀ y, wL_vertex_161 post x7 x8 x9 x10 x11 y y f0 a1 a2 a3 a4 a5 a6 a7 a8 a9 a10) : wL_vertex_140 post (nI t) x4 x6 x7 x8 x9 x10 x11 z z f0 a1 a2 a3 a4 a5 a6 a7 a8 a9 a10 := by
  refine br_t rfl ?_
  rcases h4 with e | ⟨n, hn, e, tn⟩
  · subst e
    rcases h6 with ⟨e6, _⟩ | ⟨_, q⟩
    · subst e6
      exact br_t (by decide) (H 1)
    · exact absurd q (zk_nm1 (by omega))
  · subst e
    refine br_f (nI_pos (by omega)) (pk_le n t (fun q => ?_) (fun q => ?_))
    · have nt : n = t := by omega
      rcases h6 with ⟨_, q⟩ | ⟨e6, _⟩
      · exact absurd (congrArg nI nt) q
      · subst e6
        exact H 0
    · rcases h6 with ⟨e6, _⟩ | ⟨_, q2⟩
      · subst e6
        exact H 1
      · have := (nI_eq (by omega) (by omega)).mp q2
        omega
theorem zk_v122 {t : Nat} {x3 x4 x5 x6 x7 x8 x9 x10 x11 : Int32} (ht : t ≤ 8) (h3 : x3 = -1 ∨ ∃ n, n ≤ 8 ∧ x3 = nI n ∧ t ≤ n) (h5 : (x5 = 1 ∧ x3 ≠ nI t) ∨ (x5 = 0 ∧ x3 = nI t)) (H : ∀ y, wL_vertex_140 post (nI t) x4 x6 x7 x8 x9 x10 x11 y y f0 a1 a2 a3 a4 a5 a6 a7 a8 a9 a10) : wL_vertex_122 post (nI t) x3 x4 x5 x6 x7 x8 x9 x10 x11 f0 a1 a2 a3 a4 a5 a6 a7 a8 a9 a10 := by
  rcases h3 with e | ⟨n, hn, e, tn⟩
  · subst e
    rcases h5 with ⟨e5, _⟩ | ⟨_, q⟩
    · subst e5
      exact br_t (by decide) (H 1)
    · exact absurd q (zk_nm1 (by omega))
  · subst e
    refine br_f (nI_pos (by omega)) (pk_le n t (fun q => ?_) (fun q => ?_))
    · have nt : n = t := by omega
      rcases h5 with ⟨_, q⟩ | ⟨e5, _⟩
      · exact absurd (congrArg nI nt) q
      · subst e5
        exact H 0
    · rcases h5 with ⟨e5, _⟩ | ⟨_, q2⟩
      · subst e5
        exact H 1
      · have := (nI_eq (by omega) (by omega)).mp q2
        omega
end
/-- an int that is 1 where p holds, else 0 -/
def zk_is (p : Prop) (x : Int32) : Prop := (x = 1 ∧ p) ∨ (x = 0 ∧ ¬ p)
theorem zk_v60 {post : Int32 → St1 → Prop} {J : Nat → Nat} {v : Nat} {x3 x4 x5 x6 : Int32} {f0 : Int32} {a1 a2 a3 a4 a5 a6 a7 a8 a9 a10 : Nat → Int32} (hG : zk_G J) (hK : zk_K J a1) (hv : v < 8) (h3 : zk_fr (zk_g J) (0 : Nat).testBit (2 ^ v).testBit x3) (h4 : zk_fr (zk_g J) (2 ^ v).testBit (0 : Nat).testBit x4) (h5 : zk_is (¬ zk_some J 0 (2 ^ v)) x5) (h6 : zk_is (¬ zk_some J (2 ^ v) 0) x6) (H : ∀ u', zk_U J u' → post 1 u') : wL_vertex_60 post (nI v) (nI (zk_tau (zk_g J) zk_al)) x3 x4 x5 x6 f0 a1 a2 a3 a4 a5 a6 a7 a8 a9 a10 := by
  have t8 : zk_tau (zk_g J) zk_al ≤ 8 := Nat.le_trans (zk_tau_d _ _) (zk_d_8 _)
  have g5 : (x5 = 1 ∧ x3 ≠ nI (zk_tau (zk_g J) zk_al)) ∨ (x5 = 0 ∧ x3 = nI (zk_tau (zk_g J) zk_al)) := by
    rcases h5 with ⟨e, p⟩ | ⟨e, p⟩
    · exact Or.inl ⟨e, fun q => p ((zk_fr_goal h3).mp q)⟩
    · exact Or.inr ⟨e, (zk_fr_goal h3).mpr (Classical.byContradiction (fun q => p q))⟩
  have g6 : (x6 = 1 ∧ x4 ≠ nI (zk_tau (zk_g J) zk_al)) ∨ (x6 = 0 ∧ x4 = nI (zk_tau (zk_g J) zk_al)) := by
    rcases h6 with ⟨e, p⟩ | ⟨e, p⟩
    · exact Or.inl ⟨e, fun q => p ((zk_fr_goal h4).mp q)⟩
    · exact Or.inr ⟨e, (zk_fr_goal h4).mpr (Classical.byContradiction (fun q => p q))⟩
  have sm := zk_cost_some hG.2.1 hv (hG.2.2 v hv)
  have fin : ∀ (x7 x8 x9 x10 x11 : Int32) (u' : St1), zk_U J u' → zk_is (zk_cost (zk_g J) v 0 = zk_h (zk_g J)) x7 → zk_is (zk_cost (zk_g J) v 1 = zk_h (zk_g J)) x8 → zk_is (zk_cost (zk_g J) v 2 = zk_h (zk_g J)) x9 → zk_is (zk_cost (zk_g J) v 0 ≠ zk_h (zk_g J) ∧ zk_cost (zk_g J) v 1 ≠ zk_h (zk_g J)) x10 → zk_is (zk_cost (zk_g J) v 1 ≠ zk_h (zk_g J) ∧ zk_cost (zk_g J) v 2 ≠ zk_h (zk_g J)) x11 → wL_vertex_122 post (nI (zk_tau (zk_g J) zk_al)) x3 x4 x5 x6 x7 x8 x9 x10 x11 u'.1 u'.2.1 u'.2.2.1 u'.2.2.2.1 u'.2.2.2.2.1 u'.2.2.2.2.2.1 u'.2.2.2.2.2.2.1 u'.2.2.2.2.2.2.2.1 u'.2.2.2.2.2.2.2.2.1 u'.2.2.2.2.2.2.2.2.2.1 u'.2.2.2.2.2.2.2.2.2.2 := fun x7 x8 x9 x10 x11 u' hu' q7 q8 q9 q10 q11 => by
    refine zk_v122 t8 (zk_fr_cmp h3) g5 (fun y => zk_v140 t8 (zk_fr_cmp h4) g6 (fun y => zk_v161 ?_ (H _ hu')))
    revert sm q7 q8 q9 q10 q11
    generalize zk_cost (zk_g J) v 0 = k0
    generalize zk_cost (zk_g J) v 1 = k1
    generalize zk_cost (zk_g J) v 2 = k2
    generalize zk_h (zk_g J) = hh
    intro sm q7 q8 q9 q10 q11
    rcases q7 with ⟨e7, q7⟩ | ⟨e7, q7⟩
    · rcases q8 with ⟨e8, q8⟩ | ⟨e8, q8⟩
      · have e10 : x10 = 0 := q10.elim (fun q => absurd q7 q.2.1) (fun q => q.1)
        have e11 : x11 = 0 := q11.elim (fun q => absurd q8 q.2.1) (fun q => q.1)
        rcases q9 with ⟨e9, q9⟩ | ⟨e9, q9⟩
        · exact Or.inr (Or.inr (Or.inr (Or.inl ⟨e7, e8, e9, e10, e11⟩)))
        · exact Or.inr (Or.inr (Or.inl ⟨e7, e8, e9, e10, e11⟩))
      · have e10 : x10 = 0 := q10.elim (fun q => absurd q7 q.2.1) (fun q => q.1)
        rcases q9 with ⟨e9, q9⟩ | ⟨e9, q9⟩
        · have e11 : x11 = 0 := q11.elim (fun q => absurd q9 q.2.2) (fun q => q.1)
          exact Or.inr (Or.inl ⟨e7, e8, e9, e10, e11⟩)
        · have e11 : x11 = 1 := q11.elim (fun q => q.1) (fun q => absurd ⟨q8, q9⟩ q.2)
          exact Or.inl ⟨e7, e8, e9, e10, e11⟩
    · rcases q8 with ⟨e8, q8⟩ | ⟨e8, q8⟩
      · have e10 : x10 = 0 := q10.elim (fun q => absurd q8 q.2.2) (fun q => q.1)
        have e11 : x11 = 0 := q11.elim (fun q => absurd q8 q.2.1) (fun q => q.1)
        rcases q9 with ⟨e9, q9⟩ | ⟨e9, q9⟩
        · exact Or.inr (Or.inr (Or.inr (Or.inr (Or.inr (Or.inr ⟨e7, e8, e9, e10, e11⟩)))))
        · exact Or.inr (Or.inr (Or.inr (Or.inr (Or.inr (Or.inl ⟨e7, e8, e9, e10, e11⟩)))))
      · have q9' : k2 = hh := sm.elim (fun q => absurd q q7) (fun q => q.elim (fun q => absurd q q8) id)
        have e10 : x10 = 1 := q10.elim (fun q => q.1) (fun q => absurd ⟨q7, q8⟩ q.2)
        have e11 : x11 = 0 := q11.elim (fun q => absurd q9' q.2.2) (fun q => q.1)
        have e9 : x9 = 1 := q9.elim (fun q => q.1) (fun q => absurd q9' q.2)
        exact Or.inr (Or.inr (Or.inr (Or.inr (Or.inl ⟨e7, e8, e9, e10, e11⟩))))
  have bare : ∀ (x7 x8 x9 x10 : Int32) (u' : St1), zk_U J u' → zk_is (zk_cost (zk_g J) v 0 = zk_h (zk_g J)) x7 → zk_is (zk_cost (zk_g J) v 1 = zk_h (zk_g J)) x8 → zk_is (zk_cost (zk_g J) v 2 = zk_h (zk_g J)) x9 → zk_is (zk_cost (zk_g J) v 0 ≠ zk_h (zk_g J) ∧ zk_cost (zk_g J) v 1 ≠ zk_h (zk_g J)) x10 → wL_vertex_103 post (nI v) (nI (zk_tau (zk_g J) zk_al)) x3 x4 x5 x6 x7 x8 x9 x10 u'.1 u'.2.1 u'.2.2.1 u'.2.2.2.1 u'.2.2.2.2.1 u'.2.2.2.2.2.1 u'.2.2.2.2.2.2.1 u'.2.2.2.2.2.2.2.1 u'.2.2.2.2.2.2.2.2.1 u'.2.2.2.2.2.2.2.2.2.1 u'.2.2.2.2.2.2.2.2.2.2 := fun x7 x8 x9 x10 u' hu' q7 q8 q9 q10 => by
    unfold wL_vertex_103
    refine zk_bare hG hu' (fun A u2 hA ab hu2 => ?_)
    obtain ⟨b0, b1, b2, b3, b4, b5, b6, b7, b8, b9, b10⟩ := u2
    exact zk_bit1 A v rfl hA hv (fun z => fin x7 x8 x9 x10 1 (b0, b1, b2, b3, b4, b5, b6, b7, b8, b9, b10) hu2 q7 q8 q9 q10 (Or.inl ⟨rfl, (ab v hv).mp z⟩)) (fun z => fin x7 x8 x9 x10 0 (b0, b1, b2, b3, b4, b5, b6, b7, b8, b9, b10) hu2 q7 q8 q9 q10 (Or.inr ⟨rfl, fun q => zk_tf ((ab v hv).mpr q) z⟩))
  have whole : ∀ (x7 x8 x9 : Int32) (u' : St1), zk_U J u' → zk_is (zk_cost (zk_g J) v 0 = zk_h (zk_g J)) x7 → zk_is (zk_cost (zk_g J) v 1 = zk_h (zk_g J)) x8 → zk_is (zk_cost (zk_g J) v 2 = zk_h (zk_g J)) x9 → wpX_whole (fun r_259 u => match u with | (f0_branches_260, am871_263, am872_266, am873_269, am874_272, am875_275, am876_278, am877_281, am878_284, am879_287, am8710_290) => (((((r_259 >>> (nI v &&& 31)) &&& 1) = 1 → (wL_vertex_103 post (nI v) (nI (zk_tau (zk_g J) zk_al)) x3 x4 x5 x6 x7 x8 x9 1 f0_branches_260 am871_263 am872_266 am873_269 am874_272 am875_275 am876_278 am877_281 am878_284 am879_287 am8710_290)) ∧ (¬ ((r_259 >>> (nI v &&& 31)) &&& 1) = 1 → (wL_vertex_103 post (nI v) (nI (zk_tau (zk_g J) zk_al)) x3 x4 x5 x6 x7 x8 x9 0 f0_branches_260 am871_263 am872_266 am873_269 am874_272 am875_275 am876_278 am877_281 am878_284 am879_287 am8710_290))))) u' := fun x7 x8 x9 u' hu' q7 q8 q9 => by
    refine zk_whole hG hu' (fun A u2 hA ab hu2 => ?_)
    obtain ⟨b0, b1, b2, b3, b4, b5, b6, b7, b8, b9, b10⟩ := u2
    exact zk_bit1 A v rfl hA hv (fun z => bare x7 x8 x9 1 (b0, b1, b2, b3, b4, b5, b6, b7, b8, b9, b10) hu2 q7 q8 q9 (Or.inl ⟨rfl, (ab v hv).mp z⟩)) (fun z => bare x7 x8 x9 0 (b0, b1, b2, b3, b4, b5, b6, b7, b8, b9, b10) hu2 q7 q8 q9 (Or.inr ⟨rfl, fun q => zk_tf ((ab v hv).mpr q) z⟩))
  unfold wL_vertex_60
  have c2 : ∀ (x7 x8 : Int32) (b0 : Int32) (b1 b2 b3 b4 b5 b6 b7 b8 b9 b10 : Nat → Int32), zk_K J b1 → zk_is (zk_cost (zk_g J) v 0 = zk_h (zk_g J)) x7 → zk_is (zk_cost (zk_g J) v 1 = zk_h (zk_g J)) x8 → wpX_canHave (fun r_227 u => match u with | (f0_branches_228, am811_231, am812_234, am813_237, am814_240, am815_243, am816_246, am817_249, am818_252, am819_255, am8110_258) => (wpX_whole (fun r_259 u => match u with | (f0_branches_260, am871_263, am872_266, am873_269, am874_272, am875_275, am876_278, am877_281, am878_284, am879_287, am8710_290) => (((((r_259 >>> (nI v &&& 31)) &&& 1) = 1 → (wL_vertex_103 post (nI v) (nI (zk_tau (zk_g J) zk_al)) x3 x4 x5 x6 x7 x8 r_227 1 f0_branches_260 am871_263 am872_266 am873_269 am874_272 am875_275 am876_278 am877_281 am878_284 am879_287 am8710_290)) ∧ (¬ ((r_259 >>> (nI v &&& 31)) &&& 1) = 1 → (wL_vertex_103 post (nI v) (nI (zk_tau (zk_g J) zk_al)) x3 x4 x5 x6 x7 x8 r_227 0 f0_branches_260 am871_263 am872_266 am873_269 am874_272 am875_275 am876_278 am877_281 am878_284 am879_287 am8710_290))))) (f0_branches_228, am811_231, am812_234, am813_237, am814_240, am815_243, am816_246, am817_249, am818_252, am819_255, am8110_258))) (b0, b1, b2, b3, b4, b5, b6, b7, b8, b9, b10) (nI v) 2 := fun x7 x8 b0 b1 b2 b3 b4 b5 b6 b7 b8 b9 b10 hb q7 q8 => by
    refine zk_canHave (n := 2) rfl rfl hv (by omega) hG hb (fun z u2 hu2 => ?_) (fun z u2 hu2 => ?_)
    · obtain ⟨d0, d1, d2, d3, d4, d5, d6, d7, d8, d9, d10⟩ := u2
      exact whole x7 x8 0 _ hu2 q7 q8 (Or.inr ⟨rfl, z⟩)
    · obtain ⟨d0, d1, d2, d3, d4, d5, d6, d7, d8, d9, d10⟩ := u2
      exact whole x7 x8 1 _ hu2 q7 q8 (Or.inl ⟨rfl, z⟩)
  refine zk_canHave (n := 0) rfl rfl hv (by omega) hG hK (fun z0 u1 hu1 => ?_) (fun z0 u1 hu1 => ?_)
  · obtain ⟨b0, b1, b2, b3, b4, b5, b6, b7, b8, b9, b10⟩ := u1
    refine zk_canHave (n := 1) rfl rfl hv (by omega) hG hu1 (fun z1 u2 hu2 => ?_) (fun z1 u2 hu2 => ?_)
    · obtain ⟨d0, d1, d2, d3, d4, d5, d6, d7, d8, d9, d10⟩ := u2
      exact c2 0 0 _ _ _ _ _ _ _ _ _ _ _ hu2 (Or.inr ⟨rfl, z0⟩) (Or.inr ⟨rfl, z1⟩)
    · obtain ⟨d0, d1, d2, d3, d4, d5, d6, d7, d8, d9, d10⟩ := u2
      exact c2 0 1 _ _ _ _ _ _ _ _ _ _ _ hu2 (Or.inr ⟨rfl, z0⟩) (Or.inl ⟨rfl, z1⟩)
  · obtain ⟨b0, b1, b2, b3, b4, b5, b6, b7, b8, b9, b10⟩ := u1
    refine zk_canHave (n := 1) rfl rfl hv (by omega) hG hu1 (fun z1 u2 hu2 => ?_) (fun z1 u2 hu2 => ?_)
    · obtain ⟨d0, d1, d2, d3, d4, d5, d6, d7, d8, d9, d10⟩ := u2
      exact c2 1 0 _ _ _ _ _ _ _ _ _ _ _ hu2 (Or.inl ⟨rfl, z0⟩) (Or.inr ⟨rfl, z1⟩)
    · obtain ⟨d0, d1, d2, d3, d4, d5, d6, d7, d8, d9, d10⟩ := u2
      exact c2 1 1 _ _ _ _ _ _ _ _ _ _ _ hu2 (Or.inl ⟨rfl, z0⟩) (Or.inl ⟨rfl, z1⟩)
theorem zk_vertex {post : Int32 → St1 → Prop} {J : Nat → Nat} {v : Nat} {p1 : Int32} {u : St1} (hp : p1 = nI v) (hv : v < 8) (hG : zk_G J) (hu : zk_U J u) (H : ∀ u', zk_U J u' → post 1 u') : wpL_vertex post u p1 := by
  obtain ⟨f0, a1, a2, a3, a4, a5, a6, a7, a8, a9, a10⟩ := u
  subst hp
  unfold wpL_vertex
  dsimp only
  refine zk_least hG hu (fun u1 hu1 => ?_)
  obtain ⟨b0, b1, b2, b3, b4, b5, b6, b7, b8, b9, b10⟩ := u1
  refine zk_leastWith (I := 0) (O := 2 ^ v) rfl (zk_sh1 v hv) (by omega) (zk_pw v hv) hG hu1 (fun x3 u2 hu2 h3 => ?_)
  obtain ⟨c0, c1, c2, c3, c4, c5, c6, c7, c8, c9, c10⟩ := u2
  refine zk_leastWith (I := 2 ^ v) (O := 0) (zk_sh1 v hv) rfl (zk_pw v hv) (by omega) hG hu2 (fun x4 u3 hu3 h4 => ?_)
  obtain ⟨d0, d1, d2, d3, d4, d5, d6, d7, d8, d9, d10⟩ := u3
  refine zk_always hG hu3 (fun A u4 hA ab hu4 => ?_)
  obtain ⟨e0, e1, e2, e3, e4, e5, e6, e7, e8, e9, e10⟩ := u4
  have nev : ∀ x5, zk_is (¬ zk_some J 0 (2 ^ v)) x5 → wL_vertex_41 post (nI v) (nI (zk_tau (zk_g J) zk_al)) x3 x4 x5 e0 e1 e2 e3 e4 e5 e6 e7 e8 e9 e10 := fun x5 h5 => by
    unfold wL_vertex_41
    refine zk_never hG hu4 (fun N u5 hN nb hu5 => ?_)
    obtain ⟨k0, k1, k2, k3, k4, k5, k6, k7, k8, k9, k10⟩ := u5
    exact zk_bit1 N v rfl hN hv (fun z => zk_v60 hG hu5 hv h3 h4 h5 (Or.inl ⟨rfl, (nb v hv).mp z⟩) H) (fun z => zk_v60 hG hu5 hv h3 h4 h5 (Or.inr ⟨rfl, fun q => zk_tf ((nb v hv).mpr q) z⟩) H)
  exact zk_bit1 A v rfl hA hv (fun z => nev 1 (Or.inl ⟨rfl, (ab v hv).mp z⟩)) (fun z => nev 0 (Or.inr ⟨rfl, fun q => zk_tf ((ab v hv).mpr q) z⟩))
end
section
/-! the law -/
theorem zk_law65 {post : Int32 → Prop} {L : Nat} {xs : Nat → Int32} {J10 : Int32 → Int32 → (Nat → Int32) → (Nat → Int32) → (Nat → Int32) → (Nat → Int32) → (Nat → Int32) → (Nat → Int32) → (Nat → Int32) → (Nat → Int32) → (Nat → Int32) → (Nat → Int32) → Prop} {J : Nat → Nat} {k a b : Nat} {x3 z0 : Int32} {kc ks : Nat} {f0 : Int32} {a1 a2 a3 a4 a5 a6 a7 a8 a9 a10 : Nat → Int32} (ha : a < 8) (hb : b < 8) (n : a ≠ b) (hG : zk_G J) (hK : zk_K J a1) (HJ : ∀ (J' : Nat → Nat) (u' : St1), zk_G J' → zk_U J' u' → J10 (nI (k + 1)) u'.1 u'.2.1 u'.2.2.1 u'.2.2.2.1 u'.2.2.2.2.1 u'.2.2.2.2.2.1 u'.2.2.2.2.2.2.1 u'.2.2.2.2.2.2.2.1 u'.2.2.2.2.2.2.2.2.1 u'.2.2.2.2.2.2.2.2.2.1 u'.2.2.2.2.2.2.2.2.2.2) : wL_law_65 post L xs J10 (nI k) x3 z0 (nI b) (nI a) kc ks f0 a1 a2 a3 a4 a5 a6 a7 a8 a9 a10 := by
  unfold wL_law_65
  refine zk_join rfl rfl ha hb n hG hK (fun J' u1 hG' hu1 => ?_)
  obtain ⟨b0, b1, b2, b3, b4, b5, b6, b7, b8, b9, b10⟩ := u1
  refine br_c (fun _ => ?_) (fun _ => nm_r (nI_1 k) (HJ J' (b0, b1, b2, b3, b4, b5, b6, b7, b8, b9, b10) hG' hu1))
  refine zk_numbers hG' hu1 (fun u2 hu2 => ?_)
  obtain ⟨c0, c1, c2, c3, c4, c5, c6, c7, c8, c9, c10⟩ := u2
  obtain ⟨v, hv, ev⟩ := pk_andE (x3 >>> ((13 : Int32) &&& 31)) (m := 7) 3 (by decide)
  refine br_f (by decide) (zk_vertex ev hv hG' hu2 (fun u3 hu3 => ?_))
  obtain ⟨d0, d1, d2, d3, d4, d5, d6, d7, d8, d9, d10⟩ := u3
  exact br_f (by decide) (nm_r (nI_1 k) (HJ J' (d0, d1, d2, d3, d4, d5, d6, d7, d8, d9, d10) hG' hu3))
theorem zk_law10 {L : Nat} {xs : Nat → Int32} (hL : L ≤ 260) (kc ks : Nat) : ∀ (n k : Nat) (J : Nat → Nat) (f0 : Int32) (a1 a2 a3 a4 a5 a6 a7 a8 a9 a10 : Nat → Int32), k ≤ L → L - k < n → zk_G J → zk_K J a1 → wL_law_10 (fun r => r = 1) L xs kc ks n (nI k) f0 a1 a2 a3 a4 a5 a6 a7 a8 a9 a10 := by
  intro n
  induction n with
  | zero =>
    intro k J f0 a1 a2 a3 a4 a5 a6 a7 a8 a9 a10 h1 h2
    omega
  | succ n ih =>
    intro k J f0 a1 a2 a3 a4 a5 a6 a7 a8 a9 a10 hk hn hG hK
    refine pk_le L k (fun z => ?_) (fun z => ⟨pk_in k L z, nm_e ?_⟩)
    · refine zk_numbers hG hK (fun u2 hu2 => ?_)
      obtain ⟨c0, c1, c2, c3, c4, c5, c6, c7, c8, c9, c10⟩ := u2
      rfl
    · generalize xs (nI k).toNatClampNeg = x
      obtain ⟨a, ha, ea⟩ := pk_andE x (m := 7) 3 (by decide)
      obtain ⟨t, ht, et⟩ := pk_andE (x >>> ((3 : Int32) &&& 31)) (m := 255) 8 (by decide)
      have ha' : a < 8 := ha
      have ht' : t < 256 := ht
      have er : ((nI a + 1) + (((x >>> ((3 : Int32) &&& 31)) &&& 255) - ((x >>> ((3 : Int32) &&& 31)) &&& 255) / 7 * 7)) &&& 7 = nI ((a + 1 + t % 7) % 8) := by
        rw [et, show (7 : Int32) = nI 7 from rfl, pk_rem (by omega) (by omega) (by omega), nI_1, nI_add]
        exact pk_andN (by omega) 3 (by decide)
      have step : ∀ (J' : Nat → Nat) (u' : St1), zk_G J' → zk_U J' u' → wL_law_10 (fun r => r = 1) L xs kc ks n (nI (k + 1)) u'.1 u'.2.1 u'.2.2.1 u'.2.2.2.1 u'.2.2.2.2.1 u'.2.2.2.2.2.1 u'.2.2.2.2.2.2.1 u'.2.2.2.2.2.2.2.1 u'.2.2.2.2.2.2.2.2.1 u'.2.2.2.2.2.2.2.2.2.1 u'.2.2.2.2.2.2.2.2.2.2 := fun J' u' hG' hu' => ih (k + 1) J' _ _ _ _ _ _ _ _ _ _ _ (by omega) (by omega) hG' hu'
      refine nm_r ea ⟨by decide, nm_r er (br_c (fun _ => zk_law65 ha' (by omega) (by omega) hG hK step) (fun _ => zk_law65 ha' (by omega) (by omega) hG hK step))⟩
theorem i_vc (xs : Nat → Int32) (L : Nat) (hL : L ≤ 260) : wpL_law (fun r => r = 1) L xs := by
  refine ⟨10, 610, by omega, by omega, ?_⟩
  refine ⟨by omega, by omega, by omega, by omega, by omega, by omega, by omega, by omega, by omega, by omega, by omega, by omega, by omega, by omega, by omega, by omega, by omega, by omega, by omega, by omega, ⟨L + 1, zk_law10 hL _ _ (L + 1) 0 (fun _ => 0) _ _ _ _ _ _ _ _ _ _ _ (by omega) (by omega) ⟨fun _ _ => (show 0 < 256 by omega), fun u w hu hw z => ?_, fun v hv => ?_⟩ (fun v hv => rfl)⟩⟩
  · have z2 : (0 : Nat).testBit w = true := z
    rw [Nat.zero_testBit] at z2
    exact Bool.noConfusion z2
  · exact Nat.zero_testBit v
end
