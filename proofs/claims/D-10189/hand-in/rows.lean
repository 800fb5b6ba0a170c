section
/-! counting below a bound -/
noncomputable def sm_cnt (p : Nat → Prop) : Nat → Nat
  | 0 => 0
  | n + 1 => sm_cnt p n + @ite Nat (p n) (Classical.propDecidable (p n)) 1 0
theorem sm_cnt_t {p : Nat → Prop} {n : Nat} (h : p n) : sm_cnt p (n + 1) = sm_cnt p n + 1 := by
  show sm_cnt p n + @ite Nat (p n) (Classical.propDecidable (p n)) 1 0 = _
  rw [if_pos h]
theorem sm_cnt_f {p : Nat → Prop} {n : Nat} (h : ¬ p n) : sm_cnt p (n + 1) = sm_cnt p n := by
  show sm_cnt p n + @ite Nat (p n) (Classical.propDecidable (p n)) 1 0 = _
  rw [if_neg h, Nat.add_zero]
theorem sm_cnt_le (p : Nat → Prop) (n : Nat) : sm_cnt p n ≤ n := by
  induction n with
  | zero => exact Nat.le_refl 0
  | succ n ih =>
    by_cases h : p n
    · rw [sm_cnt_t h]; omega
    · rw [sm_cnt_f h]; omega
theorem sm_cnt_all {p : Nat → Prop} {n : Nat} (h : ∀ i, i < n → p i) : sm_cnt p n = n := by
  induction n with
  | zero => rfl
  | succ n ih => rw [sm_cnt_t (h n (by omega)), ih (fun i hi => h i (by omega))]
theorem sm_cnt_none {p : Nat → Prop} {n : Nat} (h : ∀ i, i < n → ¬ p i) : sm_cnt p n = 0 := by
  induction n with
  | zero => rfl
  | succ n ih => rw [sm_cnt_f (h n (by omega)), ih (fun i hi => h i (by omega))]
theorem sm_cnt_congr {p q : Nat → Prop} {n : Nat} (h : ∀ i, i < n → (p i ↔ q i)) : sm_cnt p n = sm_cnt q n := by
  induction n with
  | zero => rfl
  | succ n ih =>
    have e := ih (fun i hi => h i (by omega))
    by_cases hp : p n
    · rw [sm_cnt_t hp, sm_cnt_t ((h n (by omega)).mp hp), e]
    · rw [sm_cnt_f hp, sm_cnt_f (fun z => hp ((h n (by omega)).mpr z)), e]
theorem sm_cnt_add (p : Nat → Prop) (m k : Nat) : sm_cnt p (m + k) = sm_cnt p m + sm_cnt (fun i => p (m + i)) k := by
  induction k with
  | zero => rfl
  | succ k ih =>
    by_cases h : p (m + k)
    · have h' : (fun i => p (m + i)) k := h
      rw [sm_cnt_t (p := fun i => p (m + i)) (n := k) h', ← Nat.add_assoc, sm_cnt_t h, ih]; omega
    · have h' : ¬ (fun i => p (m + i)) k := h
      rw [sm_cnt_f (p := fun i => p (m + i)) (n := k) h', ← Nat.add_assoc, sm_cnt_f h, ih]
theorem sm_cnt_del {p : Nat → Prop} {j : Nat} (h : p j) : ∀ n, j < n → sm_cnt p n = sm_cnt (fun i => p i ∧ i ≠ j) n + 1 := by
  intro n
  induction n with
  | zero => intro hj; omega
  | succ n ih =>
    intro hj
    by_cases e : j = n
    · subst e
      have e1 : ¬ (fun i => p i ∧ i ≠ j) j := fun z => z.2 rfl
      rw [sm_cnt_t h, sm_cnt_f e1, sm_cnt_congr (p := p) (q := fun i => p i ∧ i ≠ j) (n := j) (fun i hi => ⟨fun z => ⟨z, by omega⟩, fun z => z.1⟩)]
    · have hn := ih (by omega)
      by_cases hp : p n
      · have e1 : (fun i => p i ∧ i ≠ j) n := ⟨hp, fun z => e z.symm⟩
        rw [sm_cnt_t hp, sm_cnt_t e1, hn]
      · have e1 : ¬ (fun i => p i ∧ i ≠ j) n := fun z => hp z.1
        rw [sm_cnt_f hp, sm_cnt_f e1, hn]
theorem sm_cnt_inj {p : Nat → Prop} {m : Nat} (f : Nat → Nat) : ∀ (n : Nat) (q : Nat → Prop), (∀ i, i < n → p i → f i < m ∧ q (f i)) → (∀ i j, i < n → j < n → p i → p j → f i = f j → i = j) → sm_cnt p n ≤ sm_cnt q m := by
  intro n
  induction n with
  | zero => intro q _ _; exact Nat.zero_le _
  | succ n ih =>
    intro q h1 h2
    by_cases hp : p n
    · obtain ⟨hf, hq⟩ := h1 n (by omega) hp
      rw [sm_cnt_t hp, sm_cnt_del hq m hf]
      apply Nat.succ_le_succ
      refine ih (fun i => q i ∧ i ≠ f n) (fun i hi hpi => ?_) (fun i j hi hj hpi hpj e => h2 i j (by omega) (by omega) hpi hpj e)
      refine ⟨(h1 i (by omega) hpi).1, (h1 i (by omega) hpi).2, fun e => ?_⟩
      have := h2 i n (by omega) (by omega) hpi hp e
      omega
    · rw [sm_cnt_f hp]
      exact ih q (fun i hi hpi => h1 i (by omega) hpi) (fun i j hi hj hpi hpj e => h2 i j (by omega) (by omega) hpi hpj e)
/-- pigeonhole -/
theorem sm_pig (f : Nat → Nat) (n m : Nat) (hm : m < n) (h1 : ∀ i, i < n → f i < m) : ∃ i j, i < j ∧ j < n ∧ f i = f j := by
  apply Classical.byContradiction
  intro hn
  have h2 : ∀ i j, i < n → j < n → f i = f j → i = j := by
    intro i j hi hj e
    rcases Nat.lt_trichotomy i j with z | z | z
    · exact absurd ⟨i, j, z, hj, e⟩ hn
    · exact z
    · exact absurd ⟨j, i, z, hi, e.symm⟩ hn
  have := sm_cnt_inj (p := fun _ => True) (m := m) f n (fun _ => True) (fun i hi _ => ⟨h1 i hi, trivial⟩) (fun i j hi hj _ _ e => h2 i j hi hj e)
  rw [sm_cnt_all (fun _ _ => trivial), sm_cnt_all (fun _ _ => trivial)] at this
  omega
/-- a place added -/
theorem sm_cnt_ins {p q : Nat → Prop} {j n : Nat} (hj : j < n) (hp : ¬ p j) (h : ∀ i, i < n → (q i ↔ (p i ∨ i = j))) : sm_cnt q n = sm_cnt p n + 1 := by
  rw [sm_cnt_del ((h j hj).mpr (Or.inr rfl)) n hj]
  congr 1
  refine sm_cnt_congr (fun i hi => ?_)
  rw [h i hi]
  constructor
  · rintro ⟨z | z, w⟩
    · exact z
    · exact absurd z w
  · intro z
    exact ⟨Or.inl z, fun e => hp (e ▸ z)⟩
theorem sm_cnt_mono {p q : Nat → Prop} {n : Nat} (h : ∀ i, i < n → p i → q i) : sm_cnt p n ≤ sm_cnt q n :=
  sm_cnt_inj (fun i => i) n q (fun i hi z => ⟨hi, h i hi z⟩) (fun _ _ _ _ _ _ e => e)
/-- bound extended where nothing is -/
theorem sm_cnt_ext {p : Nat → Prop} {n m : Nat} (hm : n ≤ m) (h : ∀ i, p i → i < n) : sm_cnt p m = sm_cnt p n := by
  obtain ⟨k, rfl⟩ := Nat.exists_eq_add_of_le hm
  rw [sm_cnt_add, sm_cnt_none (p := fun i => p (n + i)) (fun i _ z => by have := h _ z; omega), Nat.add_zero]
/-- two in a set of two: there is no third -/
theorem sm_cnt_two {p : Nat → Prop} {n c d x : Nat} (h2 : sm_cnt p n = 2) (hc : c < n) (hd : d < n) (hx : x < n) (pc : p c) (pd : p d) (px : p x) (hcd : c ≠ d) : x = c ∨ x = d := by
  apply Classical.byContradiction
  intro hn
  rw [sm_cnt_del pc n hc, sm_cnt_del (p := fun i => p i ∧ i ≠ c) (j := d) ⟨pd, fun e => hcd e.symm⟩ n hd, sm_cnt_del (p := fun i => (p i ∧ i ≠ c) ∧ i ≠ d) (j := x) ⟨⟨px, fun e => hn (Or.inl e)⟩, fun e => hn (Or.inr e)⟩ n hx] at h2
  omega
/-- more than four: one outside any four -/
theorem sm_cnt_five {p : Nat → Prop} {n a b c d : Nat} (h5 : 4 < sm_cnt p n) : ∃ x, x < n ∧ p x ∧ x ≠ a ∧ x ≠ b ∧ x ≠ c ∧ x ≠ d := by
  apply Classical.byContradiction
  intro hn
  have key : ∀ i, i < n → p i → i = a ∨ i = b ∨ i = c ∨ i = d := by
    intro i hi hp
    apply Classical.byContradiction
    intro hh
    exact hn ⟨i, hi, hp, fun e => hh (Or.inl e), fun e => hh (Or.inr (Or.inl e)), fun e => hh (Or.inr (Or.inr (Or.inl e))), fun e => hh (Or.inr (Or.inr (Or.inr e)))⟩
  have := sm_cnt_inj (p := p) (m := 4) (fun i => if i = a then 0 else if i = b then 1 else if i = c then 2 else 3) n (fun _ => True) (fun i hi _ => ⟨by split <;> (try omega); split <;> (try omega); split <;> omega, trivial⟩) (fun i j hi hj hpi hpj e => by
    have k1 := key i hi hpi
    have k2 := key j hj hpj
    clear hn key h5
    repeat' split at e
    all_goals omega)
  rw [sm_cnt_all (p := fun _ => True) (fun _ _ => trivial)] at this
  omega
/-! sums below a bound -/
def sm_sum (f : Nat → Nat) : Nat → Nat
  | 0 => 0
  | n + 1 => sm_sum f n + f n
theorem sm_sum_congr {f g : Nat → Nat} {n : Nat} (h : ∀ i, i < n → f i = g i) : sm_sum f n = sm_sum g n := by
  induction n with
  | zero => rfl
  | succ n ih =>
    show sm_sum f n + f n = sm_sum g n + g n
    rw [ih (fun i hi => h i (by omega)), h n (by omega)]
theorem sm_sum_add (f g : Nat → Nat) (n : Nat) : sm_sum (fun i => f i + g i) n = sm_sum f n + sm_sum g n := by
  induction n with
  | zero => rfl
  | succ n ih =>
    show sm_sum (fun i => f i + g i) n + (f n + g n) = (sm_sum f n + f n) + (sm_sum g n + g n)
    rw [ih]; omega
theorem sm_sum_one (d n : Nat) : sm_sum (fun m => if d = m then m else 0) n = if d < n then d else 0 := by
  induction n with
  | zero => simp [sm_sum]
  | succ n ih =>
    show sm_sum (fun m => if d = m then m else 0) n + (if d = n then n else 0) = _
    rw [ih]
    repeat' split
    all_goals omega
theorem sm_cnt_three (fs : Nat → Prop) (n : Nat) : sm_cnt (fun h => fs (h / 3)) (3 * n) = 3 * sm_cnt fs n := by
  induction n with
  | zero => rfl
  | succ n ih =>
    rw [show 3 * (n + 1) = 3 * n + 3 by omega, sm_cnt_add, ih]
    by_cases h : fs n
    · rw [sm_cnt_t h, sm_cnt_all (p := fun i => fs ((3 * n + i) / 3)) (n := 3) (fun i hi => by rw [show (3 * n + i) / 3 = n by omega]; exact h)]; omega
    · rw [sm_cnt_f h, sm_cnt_none (p := fun i => fs ((3 * n + i) / 3)) (n := 3) (fun i hi => by rw [show (3 * n + i) / 3 = n by omega]; exact h)]; omega
theorem sm_cnt_grid (q : Nat → Nat → Prop) (n : Nat) : sm_cnt (fun p => q (p / 10) (p % 10)) (10 * n) = sm_sum (fun v => sm_cnt (q v) 10) n := by
  induction n with
  | zero => rfl
  | succ n ih =>
    rw [show 10 * (n + 1) = 10 * n + 10 by omega, sm_cnt_add, ih]
    show _ = sm_sum (fun v => sm_cnt (q v) 10) n + sm_cnt (q n) 10
    congr 1
    refine sm_cnt_congr (fun i hi => ?_)
    rw [show (10 * n + i) / 10 = n by omega, show (10 * n + i) % 10 = i by omega]
theorem sm_degsum (vs : Nat → Prop) (dg : Nat → Nat) (n : Nat) (h : ∀ v, v < n → vs v → dg v < 10) (h0 : ∀ v, v < n → ¬ vs v → dg v = 0) :
    sm_sum (fun m => m * sm_cnt (fun v => vs v ∧ dg v = m) n) 10 = sm_sum dg n := by
  induction n with
  | zero =>
    show sm_sum (fun m => m * 0) 10 = 0
    rfl
  | succ n ih =>
    have e := ih (fun v hv => h v (by omega)) (fun v hv => h0 v (by omega))
    show _ = sm_sum dg n + dg n
    rw [← e]
    by_cases hv : vs n
    · have e2 := sm_sum_one (dg n) 10
      rw [if_pos (h n (by omega) hv)] at e2
      have e3 : (fun m => m * sm_cnt (fun v => vs v ∧ dg v = m) (n + 1)) = (fun m => m * sm_cnt (fun v => vs v ∧ dg v = m) n + (if dg n = m then m else 0)) := by
        funext m
        by_cases hm : dg n = m
        · rw [sm_cnt_t (p := fun v => vs v ∧ dg v = m) (n := n) ⟨hv, hm⟩, if_pos hm, Nat.mul_add, Nat.mul_one]
        · rw [sm_cnt_f (p := fun v => vs v ∧ dg v = m) (n := n) (fun z => hm z.2), if_neg hm, Nat.add_zero]
      rw [e3, sm_sum_add, e2]
    · have e3 : (fun m => m * sm_cnt (fun v => vs v ∧ dg v = m) (n + 1)) = (fun m => m * sm_cnt (fun v => vs v ∧ dg v = m) n) := by
        funext m
        rw [sm_cnt_f (p := fun v => vs v ∧ dg v = m) (n := n) (fun z => hv z.1)]
      rw [h0 n (by omega) hv, e3]; rfl
end
section
/-! the picture: oriented faces -/
abbrev sm_T : Type := Nat → Nat → Nat → Prop
def sm_cy (a b c x y z : Nat) : Prop := (x = a ∧ y = b ∧ z = c) ∨ (x = b ∧ y = c ∧ z = a) ∨ (x = c ∧ y = a ∧ z = b)
def sm_rot (E : sm_T) : Prop := ∀ a b c, E a b c → E b c a
def sm_fun (E : sm_T) : Prop := ∀ a b c c', E a b c → E a b c' → c = c'
def sm_irr (E : sm_T) : Prop := ∀ a b c, E a b c → a ≠ b
def sm_opp (E : sm_T) : Prop := ∀ a b c, E a b c → ∃ d, E b a d
def sm_fat (E : sm_T) : Prop := ∀ a b c d, E a b c → E b a d → c ≠ d
def sm_ring (E : sm_T) : Prop := ∀ (P : Nat → Prop) (a : Nat), (∀ y z, E a y z → P y → P z) → ∀ y z y' z', E a y z → E a y' z' → P y → P y'
def sm_con (E : sm_T) : Prop := ∀ (P : Nat → Prop), (∀ x y z, E x y z → P x → P y) → ∀ x y z x' y' z', E x y z → E x' y' z' → P x → P x'
def sm_ok (E : sm_T) : Prop := sm_rot E ∧ sm_fun E ∧ sm_irr E ∧ sm_opp E ∧ sm_fat E ∧ sm_ring E ∧ sm_con E
/-! a face cut in three -/
def sm_sf (E : sm_T) (a b c v : Nat) : sm_T := fun x y z => (((E x y z ∧ ¬ sm_cy a b c x y z) ∨ sm_cy a b v x y z) ∨ sm_cy b c v x y z) ∨ sm_cy c a v x y z
/-! an edge turned -/
def sm_fl (E : sm_T) (a b c d : Nat) : sm_T := fun x y z => (((E x y z ∧ ¬ sm_cy a b c x y z) ∧ ¬ sm_cy b a d x y z) ∨ sm_cy c a d x y z) ∨ sm_cy d b c x y z
theorem sm_sf_rot {E : sm_T} {a b c v : Nat} (h1 : sm_rot E) : sm_rot (sm_sf E a b c v) := by
  intro x y z h
  have := h1 x y z
  unfold sm_sf sm_cy at *
  grind
theorem sm_fl_rot {E : sm_T} {a b c d : Nat} (h1 : sm_rot E) : sm_rot (sm_fl E a b c d) := by
  intro x y z h
  have := h1 x y z
  unfold sm_fl sm_cy at *
  grind
theorem sm_new {E : sm_T} {v : Nat} (h1 : sm_rot E) (hv : ∀ y z, ¬ E v y z) : (∀ x z, ¬ E x v z) ∧ (∀ x y, ¬ E x y v) :=
  ⟨fun x z h => hv _ _ (h1 _ _ _ h), fun x y h => hv _ _ (h1 _ _ _ (h1 _ _ _ h))⟩
theorem sm_sf_fun {E : sm_T} {a b c v : Nat} (h1 : sm_rot E) (h2 : sm_fun E) (h3 : sm_irr E) (h : E a b c) (hv : ∀ y z, ¬ E v y z) : sm_fun (sm_sf E a b c v) := by
  obtain ⟨hv2, hv3⟩ := sm_new h1 hv
  have e1 := h1 _ _ _ h
  have e2 := h1 _ _ _ e1
  have n1 := h3 _ _ _ h
  have n2 := h3 _ _ _ e1
  have n3 := h3 _ _ _ e2
  have va : v ≠ a := fun e => hv _ _ (e ▸ h)
  have vb : v ≠ b := fun e => hv _ _ (e ▸ e1)
  have vc : v ≠ c := fun e => hv _ _ (e ▸ e2)
  intro x y z z' k k'
  unfold sm_sf sm_cy at k k'
  unfold sm_fun at h2
  clear h1 h3
  grind (splits := 40)
theorem sm_sf_irr {E : sm_T} {a b c v : Nat} (h1 : sm_rot E) (h3 : sm_irr E) (h : E a b c) (hv : ∀ y z, ¬ E v y z) : sm_irr (sm_sf E a b c v) := by
  have e1 := h1 _ _ _ h
  have e2 := h1 _ _ _ e1
  have n1 := h3 _ _ _ h
  have n2 := h3 _ _ _ e1
  have n3 := h3 _ _ _ e2
  have va : v ≠ a := fun e => hv _ _ (e ▸ h)
  have vb : v ≠ b := fun e => hv _ _ (e ▸ e1)
  have vc : v ≠ c := fun e => hv _ _ (e ▸ e2)
  intro x y z k
  have n4 := h3 x y z
  unfold sm_sf sm_cy at k
  clear h1 h3
  grind
theorem sm_sf_opp {E : sm_T} {a b c v : Nat} (h1 : sm_rot E) (h3 : sm_irr E) (h4 : sm_opp E) (h : E a b c) (hv : ∀ y z, ¬ E v y z) : sm_opp (sm_sf E a b c v) := by
  have e1 := h1 _ _ _ h
  have e2 := h1 _ _ _ e1
  have n1 := h3 _ _ _ h
  have n2 := h3 _ _ _ e1
  have n3 := h3 _ _ _ e2
  obtain ⟨p, hp⟩ := h4 _ _ _ h
  obtain ⟨q, hq⟩ := h4 _ _ _ e1
  obtain ⟨r, hr⟩ := h4 _ _ _ e2
  have m0 : ∀ x y z, E x y z → ∃ w, sm_sf E a b c v x y w := by
    intro x y z k
    by_cases hc : sm_cy a b c x y z
    · rcases hc with ⟨rfl, rfl, rfl⟩ | ⟨rfl, rfl, rfl⟩ | ⟨rfl, rfl, rfl⟩
      · exact ⟨v, by unfold sm_sf sm_cy; simp⟩
      · exact ⟨v, by unfold sm_sf sm_cy; simp⟩
      · exact ⟨v, by unfold sm_sf sm_cy; simp⟩
    · exact ⟨z, Or.inl (Or.inl (Or.inl ⟨k, hc⟩))⟩
  intro x y z k
  rcases k with (((⟨k, _⟩ | k) | k) | k)
  · obtain ⟨w, hw⟩ := h4 _ _ _ k
    exact m0 _ _ _ hw
  · rcases k with ⟨rfl, rfl, rfl⟩ | ⟨rfl, rfl, rfl⟩ | ⟨rfl, rfl, rfl⟩
    · exact m0 _ _ _ hp
    · exact ⟨c, by unfold sm_sf sm_cy; simp⟩
    · exact ⟨c, by unfold sm_sf sm_cy; simp⟩
  · rcases k with ⟨rfl, rfl, rfl⟩ | ⟨rfl, rfl, rfl⟩ | ⟨rfl, rfl, rfl⟩
    · exact m0 _ _ _ hq
    · exact ⟨a, by unfold sm_sf sm_cy; simp⟩
    · exact ⟨a, by unfold sm_sf sm_cy; simp⟩
  · rcases k with ⟨rfl, rfl, rfl⟩ | ⟨rfl, rfl, rfl⟩ | ⟨rfl, rfl, rfl⟩
    · exact m0 _ _ _ hr
    · exact ⟨b, by unfold sm_sf sm_cy; simp⟩
    · exact ⟨b, by unfold sm_sf sm_cy; simp⟩
theorem sm_sf_fat {E : sm_T} {a b c v : Nat} (h1 : sm_rot E) (h2 : sm_fun E) (h3 : sm_irr E) (h5 : sm_fat E) (h : E a b c) (hv : ∀ y z, ¬ E v y z) : sm_fat (sm_sf E a b c v) := by
  obtain ⟨hv2, hv3⟩ := sm_new h1 hv
  have e1 := h1 _ _ _ h
  have e2 := h1 _ _ _ e1
  have n1 := h3 _ _ _ h
  have n2 := h3 _ _ _ e1
  have n3 := h3 _ _ _ e2
  have va : v ≠ a := fun e => hv _ _ (e ▸ h)
  have vb : v ≠ b := fun e => hv _ _ (e ▸ e1)
  have vc : v ≠ c := fun e => hv _ _ (e ▸ e2)
  intro x y z z' k k'
  have h5' := h5 x y z z'
  have f1 := h3 x y z
  unfold sm_sf sm_cy at k k'
  unfold sm_fun at h2
  clear h1 h3 h5
  grind
theorem sm_sf_ring {E : sm_T} {a b c v : Nat} (h1 : sm_rot E) (h4 : sm_opp E) (h6 : sm_ring E) (h : E a b c) (hv : ∀ y z, ¬ E v y z) : sm_ring (sm_sf E a b c v) := by
  obtain ⟨hv2, hv3⟩ := sm_new h1 hv
  have e1 := h1 _ _ _ h
  have e2 := h1 _ _ _ e1
  obtain ⟨p, hp⟩ := h4 _ _ _ h
  obtain ⟨q, hq⟩ := h4 _ _ _ e1
  obtain ⟨r, hr⟩ := h4 _ _ _ e2
  have m1 : sm_sf E a b c v a b v := by unfold sm_sf sm_cy; simp
  have m2 : sm_sf E a b c v b v a := by unfold sm_sf sm_cy; simp
  have m3 : sm_sf E a b c v v a b := by unfold sm_sf sm_cy; simp
  have m4 : sm_sf E a b c v b c v := by unfold sm_sf sm_cy; simp
  have m5 : sm_sf E a b c v c v b := by unfold sm_sf sm_cy; simp
  have m6 : sm_sf E a b c v v b c := by unfold sm_sf sm_cy; simp
  have m7 : sm_sf E a b c v c a v := by unfold sm_sf sm_cy; simp
  have m8 : sm_sf E a b c v a v c := by unfold sm_sf sm_cy; simp
  have m9 : sm_sf E a b c v v c a := by unfold sm_sf sm_cy; simp
  intro P u hP y z y' z' k k' py
  by_cases hu : u = v
  · subst hu
    have q1 := hP _ _ m3
    have q2 := hP _ _ m6
    have q3 := hP _ _ m9
    have hy : ∀ w w', sm_sf E a b c u u w w' → w = a ∨ w = b ∨ w = c := by
      intro w w' t
      rcases t with (((⟨t, _⟩ | t) | t) | t)
      · exact absurd t (hv _ _)
      all_goals
        rcases t with ⟨t, t', t''⟩ | ⟨t, t', t''⟩ | ⟨t, t', t''⟩
        · subst t
          exact absurd (by assumption) (hv _ _)
        · subst t
          exact absurd (by assumption) (hv _ _)
        · rw [t']; simp
    have hy1 := hy _ _ k
    have hy2 := hy _ _ k'
    clear hP h6
    rcases hy1 with rfl | rfl | rfl <;> rcases hy2 with rfl | rfl | rfl <;> grind
  · have cl : ∀ w w', E u w w' → P w → P w' := by
      intro w w' e pw
      by_cases hc : sm_cy a b c u w w'
      · rcases hc with ⟨rfl, rfl, rfl⟩ | ⟨rfl, rfl, rfl⟩ | ⟨rfl, rfl, rfl⟩
        · exact hP _ _ m8 (hP _ _ m1 pw)
        · exact hP _ _ m2 (hP _ _ m4 pw)
        · exact hP _ _ m5 (hP _ _ m7 pw)
      · exact hP _ _ (Or.inl (Or.inl (Or.inl ⟨e, hc⟩))) pw
    have old : ∀ w w', sm_sf E a b c v u w w' → (∃ t t', E u t t' ∧ (P w → P t)) ∧ (∃ t t', E u t t' ∧ (P t → P w)) := by
      intro w w' t
      have t0 := t
      rcases t with (((⟨t, _⟩ | t) | t) | t)
      · exact ⟨⟨_, _, t, id⟩, ⟨_, _, t, id⟩⟩
      · rcases t with ⟨rfl, rfl, rfl⟩ | ⟨rfl, rfl, rfl⟩ | ⟨rfl, rfl, rfl⟩
        · exact ⟨⟨_, _, h, id⟩, ⟨_, _, h, id⟩⟩
        · exact ⟨⟨_, _, hp, hP _ _ m2⟩, ⟨_, _, e1, hP _ _ m4⟩⟩
        · exact absurd rfl hu
      · rcases t with ⟨rfl, rfl, rfl⟩ | ⟨rfl, rfl, rfl⟩ | ⟨rfl, rfl, rfl⟩
        · exact ⟨⟨_, _, e1, id⟩, ⟨_, _, e1, id⟩⟩
        · exact ⟨⟨_, _, hq, hP _ _ m5⟩, ⟨_, _, e2, hP _ _ m7⟩⟩
        · exact absurd rfl hu
      · rcases t with ⟨rfl, rfl, rfl⟩ | ⟨rfl, rfl, rfl⟩ | ⟨rfl, rfl, rfl⟩
        · exact ⟨⟨_, _, e2, id⟩, ⟨_, _, e2, id⟩⟩
        · exact ⟨⟨_, _, hr, hP _ _ m8⟩, ⟨_, _, h, hP _ _ m1⟩⟩
        · exact absurd rfl hu
    obtain ⟨t, t', ht, f⟩ := (old _ _ k).1
    obtain ⟨s, s', hs, g⟩ := (old _ _ k').2
    exact g (h6 P u cl _ _ _ _ ht hs (f py))
theorem sm_sf_con {E : sm_T} {a b c v : Nat} (h1 : sm_rot E) (h7 : sm_con E) (h : E a b c) : sm_con (sm_sf E a b c v) := by
  have e1 := h1 _ _ _ h
  have e2 := h1 _ _ _ e1
  have m1 : sm_sf E a b c v a b v := by unfold sm_sf sm_cy; simp
  have m3 : sm_sf E a b c v v a b := by unfold sm_sf sm_cy; simp
  have m4 : sm_sf E a b c v b c v := by unfold sm_sf sm_cy; simp
  have m7 : sm_sf E a b c v c a v := by unfold sm_sf sm_cy; simp
  have m8 : sm_sf E a b c v a v c := by unfold sm_sf sm_cy; simp
  intro P hP x y z x' y' z' k k' px
  have cl : ∀ x y z, E x y z → P x → P y := by
    intro x y z e px
    by_cases hc : sm_cy a b c x y z
    · rcases hc with ⟨rfl, rfl, rfl⟩ | ⟨rfl, rfl, rfl⟩ | ⟨rfl, rfl, rfl⟩
      · exact hP _ _ _ m1 px
      · exact hP _ _ _ m4 px
      · exact hP _ _ _ m7 px
    · exact hP _ _ _ (Or.inl (Or.inl (Or.inl ⟨e, hc⟩))) px
  have old : ∀ x y z, sm_sf E a b c v x y z → (∃ t s r, E t s r ∧ (P x → P t)) ∧ (∃ t s r, E t s r ∧ (P t → P x)) := by
    intro x y z t
    rcases t with (((⟨t, _⟩ | t) | t) | t)
    · exact ⟨⟨_, _, _, t, id⟩, ⟨_, _, _, t, id⟩⟩
    all_goals
      rcases t with ⟨rfl, rfl, rfl⟩ | ⟨rfl, rfl, rfl⟩ | ⟨rfl, rfl, rfl⟩
      · exact ⟨⟨_, _, _, (by assumption), id⟩, ⟨_, _, _, (by assumption), id⟩⟩
      · exact ⟨⟨_, _, _, (by assumption), id⟩, ⟨_, _, _, (by assumption), id⟩⟩
      · exact ⟨⟨_, _, _, h, hP _ _ _ m3⟩, ⟨_, _, _, h, hP _ _ _ m8⟩⟩
  obtain ⟨t, s, r, ht, f⟩ := (old _ _ _ k).1
  obtain ⟨t', s', r', ht', g⟩ := (old _ _ _ k').2
  exact g (h7 P cl _ _ _ _ _ _ ht ht' (f px))
theorem sm_sf_ok {E : sm_T} {a b c v : Nat} (hk : sm_ok E) (h : E a b c) (hv : ∀ y z, ¬ E v y z) : sm_ok (sm_sf E a b c v) := by
  obtain ⟨h1, h2, h3, h4, h5, h6, h7⟩ := hk
  exact ⟨sm_sf_rot h1, sm_sf_fun h1 h2 h3 h hv, sm_sf_irr h1 h3 h hv, sm_sf_opp h1 h3 h4 h hv, sm_sf_fat h1 h2 h3 h5 h hv, sm_sf_ring h1 h4 h6 h hv, sm_sf_con h1 h7 h⟩
end
section
/-! an edge turned: kept -/
def sm_quad (E : sm_T) (a b c d : Nat) : Prop := (E a b c ∧ E b c a ∧ E c a b) ∧ (E b a d ∧ E a d b ∧ E d b a) ∧ (a ≠ b ∧ b ≠ c ∧ c ≠ a ∧ a ≠ d ∧ b ≠ d ∧ c ≠ d)
theorem sm_quad_of {E : sm_T} {a b c d : Nat} (h1 : sm_rot E) (h3 : sm_irr E) (h5 : sm_fat E) (h : E a b c) (k : E b a d) : sm_quad E a b c d :=
  ⟨⟨h, h1 _ _ _ h, h1 _ _ _ (h1 _ _ _ h)⟩, ⟨k, h1 _ _ _ k, h1 _ _ _ (h1 _ _ _ k)⟩, h3 _ _ _ h, h3 _ _ _ (h1 _ _ _ h), h3 _ _ _ (h1 _ _ _ (h1 _ _ _ h)), h3 _ _ _ (h1 _ _ _ k), fun e => h3 _ _ _ (h1 _ _ _ (h1 _ _ _ k)) e.symm, h5 _ _ _ _ h k⟩
theorem sm_fl_fun {E : sm_T} {a b c d : Nat} (h2 : sm_fun E) (hq : sm_quad E a b c d) (hcd : ∀ z, ¬ E c d z) (hdc : ∀ z, ¬ E d c z) : sm_fun (sm_fl E a b c d) := by
  obtain ⟨⟨e1, e2, e3⟩, ⟨e4, e5, e6⟩, n1, n2, n3, n4, n5, n6⟩ := hq
  intro x y z z' k k'
  unfold sm_fl sm_cy at k k'
  unfold sm_fun at h2
  grind (splits := 60)
theorem sm_fl_irr {E : sm_T} {a b c d : Nat} (h3 : sm_irr E) (hq : sm_quad E a b c d) : sm_irr (sm_fl E a b c d) := by
  obtain ⟨⟨e1, e2, e3⟩, ⟨e4, e5, e6⟩, n1, n2, n3, n4, n5, n6⟩ := hq
  intro x y z k
  have n4 := h3 x y z
  unfold sm_fl sm_cy at k
  clear h3
  grind (splits := 60)
theorem sm_fl_opp {E : sm_T} {a b c d : Nat} (h2 : sm_fun E) (h4 : sm_opp E) (hq : sm_quad E a b c d) : sm_opp (sm_fl E a b c d) := by
  obtain ⟨⟨e1, e2, e3⟩, ⟨e4, e5, e6⟩, n1, n2, n3, n4, n5, n6⟩ := hq
  have m0 : ∀ x y z, E x y z → ¬ (x = a ∧ y = b) → ¬ (x = b ∧ y = a) → ∃ w, sm_fl E a b c d x y w := by
    intro x y z k q1 q2
    by_cases hc : sm_cy a b c x y z
    · rcases hc with ⟨rfl, rfl, rfl⟩ | ⟨rfl, rfl, rfl⟩ | ⟨rfl, rfl, rfl⟩
      · exact absurd ⟨rfl, rfl⟩ q1
      · exact ⟨d, by unfold sm_fl sm_cy; simp⟩
      · exact ⟨d, by unfold sm_fl sm_cy; simp⟩
    · by_cases hd : sm_cy b a d x y z
      · rcases hd with ⟨rfl, rfl, rfl⟩ | ⟨rfl, rfl, rfl⟩ | ⟨rfl, rfl, rfl⟩
        · exact absurd ⟨rfl, rfl⟩ q2
        · exact ⟨c, by unfold sm_fl sm_cy; simp⟩
        · exact ⟨c, by unfold sm_fl sm_cy; simp⟩
      · exact ⟨z, Or.inl (Or.inl ⟨⟨k, hc⟩, hd⟩)⟩
  have m1 : sm_fl E a b c d c d b := by unfold sm_fl sm_cy; simp
  have m2 : sm_fl E a b c d d c a := by unfold sm_fl sm_cy; simp
  intro x y z k
  rcases k with ((⟨⟨k, l1⟩, l2⟩ | k) | k)
  · obtain ⟨w, hw⟩ := h4 _ _ _ k
    refine m0 _ _ _ hw ?_ ?_
    · rintro ⟨rfl, rfl⟩
      exact l2 (Or.inl ⟨rfl, rfl, h2 _ _ _ _ k e4⟩)
    · rintro ⟨rfl, rfl⟩
      exact l1 (Or.inl ⟨rfl, rfl, h2 _ _ _ _ k e1⟩)
  · rcases k with ⟨rfl, rfl, rfl⟩ | ⟨rfl, rfl, rfl⟩ | ⟨rfl, rfl, rfl⟩
    · obtain ⟨w, hw⟩ := h4 _ _ _ e3
      exact m0 _ _ _ hw (fun t => n2 t.2.symm) (fun t => n1 t.1)
    · obtain ⟨w, hw⟩ := h4 _ _ _ e5
      exact m0 _ _ _ hw (fun t => n4 t.1.symm) (fun t => n5 t.1.symm)
    · exact ⟨_, m1⟩
  · rcases k with ⟨rfl, rfl, rfl⟩ | ⟨rfl, rfl, rfl⟩ | ⟨rfl, rfl, rfl⟩
    · obtain ⟨w, hw⟩ := h4 _ _ _ e6
      exact m0 _ _ _ hw (fun t => n1 t.1.symm) (fun t => n4 t.2.symm)
    · obtain ⟨w, hw⟩ := h4 _ _ _ e2
      exact m0 _ _ _ hw (fun t => n3 t.1) (fun t => n2 t.1.symm)
    · exact ⟨_, m2⟩
theorem sm_fl_fat {E : sm_T} {a b c d : Nat} (h2 : sm_fun E) (h1 : sm_rot E) (h5 : sm_fat E) (hq : sm_quad E a b c d) (hcd : ∀ z, ¬ E c d z) (hdc : ∀ z, ¬ E d c z) : sm_fat (sm_fl E a b c d) := by
  obtain ⟨⟨e1, e2, e3⟩, ⟨e4, e5, e6⟩, n1, n2, n3, n4, n5, n6⟩ := hq
  intro x y z z' k k'
  have h5' := h5 x y z z'
  have r1 := h1 x y z
  have r2 := h1 y x z'
  have r3 := h1 y z x
  have r4 := h1 x z' y
  unfold sm_fl sm_cy at k k'
  unfold sm_fun at h2
  clear h1 h5
  grind (splits := 60)
theorem sm_fl_sym {E : sm_T} {a b c d : Nat} : sm_fl E a b c d = sm_fl E b a d c := by
  funext x y z
  apply propext
  unfold sm_fl
  constructor
  · rintro ((⟨⟨k, l1⟩, l2⟩ | k) | k)
    · exact Or.inl (Or.inl ⟨⟨k, l2⟩, l1⟩)
    · exact Or.inr k
    · exact Or.inl (Or.inr k)
  · rintro ((⟨⟨k, l1⟩, l2⟩ | k) | k)
    · exact Or.inl (Or.inl ⟨⟨k, l2⟩, l1⟩)
    · exact Or.inr k
    · exact Or.inl (Or.inr k)
theorem sm_quad_sym {E : sm_T} {a b c d : Nat} (hq : sm_quad E a b c d) : sm_quad E b a d c := by
  obtain ⟨⟨e1, e2, e3⟩, ⟨e4, e5, e6⟩, n1, n2, n3, n4, n5, n6⟩ := hq
  exact ⟨⟨e4, e5, e6⟩, ⟨e1, e2, e3⟩, n1.symm, n4, n5.symm, n2, n3.symm, n6.symm⟩
theorem sm_fl_Q {E : sm_T} {a b c d : Nat} (h1 : sm_rot E) (h2 : sm_fun E) (hq : sm_quad E a b c d) (P : Nat → Prop) (hP : ∀ y z, sm_fl E a b c d a y z → P y → P z) :
    ∃ Q : Nat → Prop, (∀ w w', E a w w' → Q w → Q w') ∧ (∀ w, w ≠ b → (Q w ↔ P w)) := by
  obtain ⟨⟨e1, e2, e3⟩, ⟨e4, e5, e6⟩, n1, n2, n3, n4, n5, n6⟩ := hq
  have m2 : sm_fl E a b c d a d c := by unfold sm_fl sm_cy; simp
  refine ⟨fun w => (w = b → P d) ∧ (w ≠ b → P w), ?_, ?_⟩
  · intro w w' e hw
    by_cases wb : w = b
    · subst wb
      have := h2 _ _ _ _ e e1
      subst this
      exact ⟨fun t => absurd t.symm n2, fun _ => hP _ _ m2 (hw.1 rfl)⟩
    · by_cases wd : w = d
      · subst wd
        have := h2 _ _ _ _ e e5
        subst this
        exact ⟨fun _ => hw.2 wb, fun t => absurd rfl t⟩
      · refine ⟨fun t => ?_, fun _ => ?_⟩
        · subst t
          exact absurd (h2 _ _ _ _ (h1 _ _ _ (h1 _ _ _ e)) e4) wd
        · refine hP _ _ (Or.inl (Or.inl ⟨⟨e, ?_⟩, ?_⟩)) (hw.2 wb)
          · rintro (⟨_, t, _⟩ | ⟨t, _, _⟩ | ⟨t, _, _⟩)
            · exact wb t
            · exact n1 t
            · exact n3 t.symm
          · rintro (⟨t, _, _⟩ | ⟨_, t, _⟩ | ⟨t, _, _⟩)
            · exact n1 t
            · exact wd t
            · exact n4 t
  · intro w wb
    exact ⟨fun t => t.2 wb, fun t => ⟨fun r => absurd r wb, fun _ => t⟩⟩
theorem sm_fl_ring {E : sm_T} {a b c d : Nat} (h1 : sm_rot E) (h2 : sm_fun E) (h4 : sm_opp E) (h6 : sm_ring E) (hq : sm_quad E a b c d) : sm_ring (sm_fl E a b c d) := by
  have hq0 := hq
  obtain ⟨⟨e1, e2, e3⟩, ⟨e4, e5, e6⟩, n1, n2, n3, n4, n5, n6⟩ := hq
  have m1 : sm_fl E a b c d c a d := by unfold sm_fl sm_cy; simp
  have m2 : sm_fl E a b c d a d c := by unfold sm_fl sm_cy; simp
  have m3 : sm_fl E a b c d d c a := by unfold sm_fl sm_cy; simp
  have m4 : sm_fl E a b c d d b c := by unfold sm_fl sm_cy; simp
  have m5 : sm_fl E a b c d b c d := by unfold sm_fl sm_cy; simp
  have m6 : sm_fl E a b c d c d b := by unfold sm_fl sm_cy; simp
  obtain ⟨p, hp⟩ := h4 _ _ _ e2
  obtain ⟨q, hq⟩ := h4 _ _ _ e5
  intro P u hP y z y' z' k k' py
  have hQ : ∃ Q : Nat → Prop, (∀ w w', E u w w' → Q w → Q w') ∧ (∀ w, ¬ (u = a ∧ w = b) → ¬ (u = b ∧ w = a) → (Q w ↔ P w)) := by
    by_cases ua : u = a
    · subst ua
      obtain ⟨Q, q1, q2⟩ := sm_fl_Q h1 h2 hq0 P hP
      exact ⟨Q, q1, fun w t1 _ => q2 w (fun e => t1 ⟨rfl, e⟩)⟩
    · by_cases ub : u = b
      · subst ub
        obtain ⟨Q, q1, q2⟩ := sm_fl_Q h1 h2 (sm_quad_sym hq0) P (fun y z t => hP y z (sm_fl_sym ▸ t))
        exact ⟨Q, q1, fun w _ t1 => q2 w (fun e => t1 ⟨rfl, e⟩)⟩
      · refine ⟨P, fun w w' e pw => ?_, fun w _ _ => Iff.rfl⟩
        by_cases hc : sm_cy a b c u w w'
        · rcases hc with ⟨t, t', t''⟩ | ⟨t, t', t''⟩ | ⟨t, t', t''⟩
          · exact absurd t ua
          · exact absurd t ub
          · subst t t' t''
            exact hP _ _ m6 (hP _ _ m1 pw)
        · by_cases hd : sm_cy b a d u w w'
          · rcases hd with ⟨t, t', t''⟩ | ⟨t, t', t''⟩ | ⟨t, t', t''⟩
            · exact absurd t ub
            · exact absurd t ua
            · subst t t' t''
              exact hP _ _ m3 (hP _ _ m4 pw)
          · exact hP _ _ (Or.inl (Or.inl ⟨⟨e, hc⟩, hd⟩)) pw
  obtain ⟨Q, cl, hw⟩ := hQ
  have old : ∀ w w', sm_fl E a b c d u w w' → (∃ t t', E u t t' ∧ (P w → Q t)) ∧ (∃ t t', E u t t' ∧ (Q t → P w)) := by
    intro w w' t
    rcases t with ((⟨⟨t, l1⟩, l2⟩ | t) | t)
    · have i := hw w (fun ⟨g1, g2⟩ => by
        subst g1 g2
        exact l1 (Or.inl ⟨rfl, rfl, h2 _ _ _ _ t e1⟩)) (fun ⟨g1, g2⟩ => by
        subst g1 g2
        exact l2 (Or.inl ⟨rfl, rfl, h2 _ _ _ _ t e4⟩))
      exact ⟨⟨_, _, t, i.mpr⟩, ⟨_, _, t, i.mp⟩⟩
    · rcases t with ⟨t, t', t''⟩ | ⟨t, t', t''⟩ | ⟨t, t', t''⟩ <;> subst t t' t''
      · have i := hw w (fun g => n3 g.1) (fun g => n2 g.1.symm)
        exact ⟨⟨_, _, e3, i.mpr⟩, ⟨_, _, e3, i.mp⟩⟩
      · have i := hw w (fun g => n5 g.2.symm) (fun g => n1 g.1)
        exact ⟨⟨_, _, e5, i.mpr⟩, ⟨_, _, e5, i.mp⟩⟩
      · have i := hw w' (fun g => n4 g.1.symm) (fun g => n5 g.1.symm)
        have j := hw b (fun g => n4 g.1.symm) (fun g => n5 g.1.symm)
        exact ⟨⟨_, _, hq, fun r => i.mpr (hP _ _ m3 r)⟩, ⟨_, _, e6, fun r => hP _ _ m4 (j.mp r)⟩⟩
    · rcases t with ⟨t, t', t''⟩ | ⟨t, t', t''⟩ | ⟨t, t', t''⟩ <;> subst t t' t''
      · have i := hw w (fun g => n4 g.1.symm) (fun g => n5 g.1.symm)
        exact ⟨⟨_, _, e6, i.mpr⟩, ⟨_, _, e6, i.mp⟩⟩
      · have i := hw w (fun g => n2 g.2.symm) (fun g => n3 g.2)
        exact ⟨⟨_, _, e2, i.mpr⟩, ⟨_, _, e2, i.mp⟩⟩
      · have i := hw w' (fun g => n3 g.1) (fun g => n2 g.1.symm)
        have j := hw a (fun g => n3 g.1) (fun g => n2 g.1.symm)
        exact ⟨⟨_, _, hp, fun r => i.mpr (hP _ _ m6 r)⟩, ⟨_, _, e3, fun r => hP _ _ m1 (j.mp r)⟩⟩
  obtain ⟨t, t', ht, f⟩ := (old _ _ k).1
  obtain ⟨s, s', hs, g⟩ := (old _ _ k').2
  exact g (h6 Q u cl _ _ _ _ ht hs (f py))
theorem sm_fl_con {E : sm_T} {a b c d : Nat} (h4 : sm_opp E) (h7 : sm_con E) (hq : sm_quad E a b c d) : sm_con (sm_fl E a b c d) := by
  obtain ⟨⟨e1, e2, e3⟩, ⟨e4, e5, e6⟩, n1, n2, n3, n4, n5, n6⟩ := hq
  have m1 : sm_fl E a b c d c a d := by unfold sm_fl sm_cy; simp
  have m2 : sm_fl E a b c d a d c := by unfold sm_fl sm_cy; simp
  have m3 : sm_fl E a b c d d c a := by unfold sm_fl sm_cy; simp
  have m4 : sm_fl E a b c d d b c := by unfold sm_fl sm_cy; simp
  have m5 : sm_fl E a b c d b c d := by unfold sm_fl sm_cy; simp
  have m6 : sm_fl E a b c d c d b := by unfold sm_fl sm_cy; simp
  intro P hP x y z x' y' z' k k' px
  have cl : ∀ x y z, E x y z → P x → P y := by
    intro x y z e px
    by_cases hc : sm_cy a b c x y z
    · rcases hc with ⟨t, t', t''⟩ | ⟨t, t', t''⟩ | ⟨t, t', t''⟩ <;> subst t t' t''
      · exact hP _ _ _ m4 (hP _ _ _ m2 px)
      · exact hP _ _ _ m5 px
      · exact hP _ _ _ m1 px
    · by_cases hd : sm_cy b a d x y z
      · rcases hd with ⟨t, t', t''⟩ | ⟨t, t', t''⟩ | ⟨t, t', t''⟩ <;> subst t t' t''
        · exact hP _ _ _ m1 (hP _ _ _ m5 px)
        · exact hP _ _ _ m2 px
        · exact hP _ _ _ m4 px
      · exact hP _ _ _ (Or.inl (Or.inl ⟨⟨e, hc⟩, hd⟩)) px
  have old : ∀ x y z, sm_fl E a b c d x y z → ∃ s r, E x s r := by
    intro x y z t
    rcases t with ((⟨⟨t, l1⟩, l2⟩ | t) | t)
    · exact ⟨_, _, t⟩
    all_goals
      rcases t with ⟨t, t', t''⟩ | ⟨t, t', t''⟩ | ⟨t, t', t''⟩ <;> subst t t' t'' <;> exact ⟨_, _, by assumption⟩
  obtain ⟨s, r, ht⟩ := old _ _ _ k
  obtain ⟨s', r', ht'⟩ := old _ _ _ k'
  exact h7 P cl _ _ _ _ _ _ ht ht' px
theorem sm_fl_ok {E : sm_T} {a b c d : Nat} (hk : sm_ok E) (h : E a b c) (k : E b a d) (hcd : ∀ z, ¬ E c d z) : sm_ok (sm_fl E a b c d) := by
  obtain ⟨h1, h2, h3, h4, h5, h6, h7⟩ := hk
  have hq := sm_quad_of h1 h3 h5 h k
  have hdc : ∀ z, ¬ E d c z := fun z t => by
    obtain ⟨w, hw⟩ := h4 _ _ _ t
    exact hcd w hw
  exact ⟨sm_fl_rot h1, sm_fl_fun h2 hq hcd hdc, sm_fl_irr h3 hq, sm_fl_opp h2 h4 hq, sm_fl_fat h2 h1 h5 hq hcd hdc, sm_fl_ring h1 h2 h4 h6 hq, sm_fl_con h4 h7 hq⟩
end
section
/-! an edge drawn together: kept -/
def sm_s (a b x : Nat) : Nat := if x = b then a else x
def sm_D (E : sm_T) (a b c d : Nat) : sm_T := fun x y z => (E x y z ∧ ¬ sm_cy a b c x y z) ∧ ¬ sm_cy b a d x y z
def sm_co (E : sm_T) (a b c d : Nat) : sm_T := fun x y z => ∃ x' y' z', sm_D E a b c d x' y' z' ∧ x = sm_s a b x' ∧ y = sm_s a b y' ∧ z = sm_s a b z'
theorem sm_s_b (a b : Nat) : sm_s a b b = a := by unfold sm_s; simp
theorem sm_s_n {a b x : Nat} (h : x ≠ b) : sm_s a b x = x := by unfold sm_s; rw [if_neg h]
theorem sm_D_rot {E : sm_T} {a b c d : Nat} (h1 : sm_rot E) : sm_rot (sm_D E a b c d) := by
  intro x y z h
  have := h1 x y z
  unfold sm_D sm_cy at *
  grind
theorem sm_D_ne {E : sm_T} {a b c d x y z : Nat} (h2 : sm_fun E) (hq : sm_quad E a b c d) (h : sm_D E a b c d x y z) : ¬ (x = a ∧ y = b) ∧ ¬ (x = b ∧ y = c) ∧ ¬ (x = c ∧ y = a) ∧ ¬ (x = b ∧ y = a) ∧ ¬ (x = a ∧ y = d) ∧ ¬ (x = d ∧ y = b) := by
  obtain ⟨⟨e1, e2, e3⟩, ⟨e4, e5, e6⟩, _⟩ := hq
  obtain ⟨⟨h, l1⟩, l2⟩ := h
  refine ⟨?_, ?_, ?_, ?_, ?_, ?_⟩
  · rintro ⟨rfl, rfl⟩
    exact l1 (Or.inl ⟨rfl, rfl, h2 _ _ _ _ h e1⟩)
  · rintro ⟨rfl, rfl⟩
    exact l1 (Or.inr (Or.inl ⟨rfl, rfl, h2 _ _ _ _ h e2⟩))
  · rintro ⟨rfl, rfl⟩
    exact l1 (Or.inr (Or.inr ⟨rfl, rfl, h2 _ _ _ _ h e3⟩))
  · rintro ⟨rfl, rfl⟩
    exact l2 (Or.inl ⟨rfl, rfl, h2 _ _ _ _ h e4⟩)
  · rintro ⟨rfl, rfl⟩
    exact l2 (Or.inr (Or.inl ⟨rfl, rfl, h2 _ _ _ _ h e5⟩))
  · rintro ⟨rfl, rfl⟩
    exact l2 (Or.inr (Or.inr ⟨rfl, rfl, h2 _ _ _ _ h e6⟩))
theorem sm_D_of {E : sm_T} {a b c d x y z : Nat} (h : E x y z) (hn : ¬ (x = a ∧ y = b) ∧ ¬ (x = b ∧ y = c) ∧ ¬ (x = c ∧ y = a) ∧ ¬ (x = b ∧ y = a) ∧ ¬ (x = a ∧ y = d) ∧ ¬ (x = d ∧ y = b)) : sm_D E a b c d x y z := by
  refine ⟨⟨h, ?_⟩, ?_⟩ <;> unfold sm_cy <;> grind
/-- what the collapse of b into a needs -/
def sm_cc (E : sm_T) (a b c d : Nat) : Prop := sm_quad E a b c d ∧ (∀ x y z, E a x y → E b x z → x = c ∨ x = d) ∧ (∃ v y z, E v y z ∧ v ≠ a ∧ v ≠ b ∧ v ≠ c ∧ v ≠ d)
theorem sm_cc_sides {E : sm_T} {a b c d : Nat} (h4 : sm_opp E) (hq : sm_quad E a b c d) : (∃ p, sm_D E a b c d a c p) ∧ (∃ p, sm_D E a b c d c b p) ∧ (∃ p, sm_D E a b c d b d p) ∧ (∃ p, sm_D E a b c d d a p) := by
  obtain ⟨⟨e1, e2, e3⟩, ⟨e4, e5, e6⟩, n1, n2, n3, n4, n5, n6⟩ := hq
  obtain ⟨p, hp⟩ := h4 _ _ _ e3
  obtain ⟨q, hq⟩ := h4 _ _ _ e2
  obtain ⟨r, hr⟩ := h4 _ _ _ e6
  obtain ⟨t, ht⟩ := h4 _ _ _ e5
  refine ⟨⟨p, sm_D_of hp ?_⟩, ⟨q, sm_D_of hq ?_⟩, ⟨r, sm_D_of hr ?_⟩, ⟨t, sm_D_of ht ?_⟩⟩
  all_goals omega
/-- neighbours of both, in every form -/
theorem sm_cc_both {E : sm_T} {a b c d : Nat} (h4 : sm_opp E) (hb : ∀ x y z, E a x y → E b x z → x = c ∨ x = d) {x : Nat} (ha : (∃ y, E a x y) ∨ (∃ y, E x a y)) (hb' : (∃ y, E b x y) ∨ (∃ y, E x b y)) : x = c ∨ x = d := by
  have f1 : ∃ y, E a x y := by
    rcases ha with h | ⟨y, h⟩
    · exact h
    · exact h4 _ _ _ h
  have f2 : ∃ y, E b x y := by
    rcases hb' with h | ⟨y, h⟩
    · exact h
    · exact h4 _ _ _ h
  obtain ⟨y, hy⟩ := f1
  obtain ⟨z, hz⟩ := f2
  exact hb x y z hy hz
theorem sm_s_eq {a b x x' : Nat} (h : sm_s a b x = sm_s a b x') : x = x' ∨ (x = a ∧ x' = b) ∨ (x = b ∧ x' = a) := by
  unfold sm_s at h
  split at h <;> split at h <;> omega
theorem sm_D_inj {E : sm_T} {a b c d : Nat} (h2 : sm_fun E) (h3 : sm_irr E) (h4 : sm_opp E) (hc : sm_cc E a b c d) {x y z x' y' z' : Nat} (h : sm_D E a b c d x y z) (h' : sm_D E a b c d x' y' z') (ex : sm_s a b x = sm_s a b x') (ey : sm_s a b y = sm_s a b y') : x = x' ∧ y = y' := by
  obtain ⟨hq, hb, _⟩ := hc
  have g := sm_D_ne h2 hq h
  have g' := sm_D_ne h2 hq h'
  have i := h3 _ _ _ h.1.1
  have i' := h3 _ _ _ h'.1.1
  have k1 : x = a → x' = b → y = y' → y = c ∨ y = d := fun q1 q2 q3 => sm_cc_both h4 hb (Or.inl ⟨z, q1 ▸ h.1.1⟩) (Or.inl ⟨z', q3 ▸ q2 ▸ h'.1.1⟩)
  have k2 : x = b → x' = a → y = y' → y = c ∨ y = d := fun q1 q2 q3 => sm_cc_both h4 hb (Or.inl ⟨z', q3 ▸ q2 ▸ h'.1.1⟩) (Or.inl ⟨z, q1 ▸ h.1.1⟩)
  have k3 : x = x' → y = a → y' = b → x = c ∨ x = d := fun q1 q2 q3 => sm_cc_both h4 hb (Or.inr ⟨z, q2 ▸ h.1.1⟩) (Or.inr ⟨z', q1 ▸ q3 ▸ h'.1.1⟩)
  have k4 : x = x' → y = b → y' = a → x = c ∨ x = d := fun q1 q2 q3 => sm_cc_both h4 hb (Or.inr ⟨z', q1 ▸ q3 ▸ h'.1.1⟩) (Or.inr ⟨z, q2 ▸ h.1.1⟩)
  rcases sm_s_eq ex with X | ⟨X, X'⟩ | ⟨X, X'⟩ <;> rcases sm_s_eq ey with Y | ⟨Y, Y'⟩ | ⟨Y, Y'⟩
  · exact ⟨X, Y⟩
  · rcases k3 X Y Y' with q | q
    · exact absurd ⟨q, Y⟩ g.2.2.1
    · exact absurd ⟨X ▸ q, Y'⟩ g'.2.2.2.2.2
  · rcases k4 X Y Y' with q | q
    · exact absurd ⟨X ▸ q, Y'⟩ g'.2.2.1
    · exact absurd ⟨q, Y⟩ g.2.2.2.2.2
  · rcases k1 X X' Y with q | q
    · exact absurd ⟨X', Y ▸ q⟩ g'.2.1
    · exact absurd ⟨X, q⟩ g.2.2.2.2.1
  · exact absurd (X.trans Y.symm) i
  · exact absurd ⟨X, Y⟩ g.1
  · rcases k2 X X' Y with q | q
    · exact absurd ⟨X, q⟩ g.2.1
    · exact absurd ⟨X', Y ▸ q⟩ g'.2.2.2.2.1
  · exact absurd ⟨X, Y⟩ g.2.2.2.1
  · exact absurd (X.trans Y.symm) i
theorem sm_co_rot {E : sm_T} {a b c d : Nat} (h1 : sm_rot E) : sm_rot (sm_co E a b c d) := by
  rintro x y z ⟨x', y', z', h, ex, ey, ez⟩
  exact ⟨y', z', x', sm_D_rot h1 _ _ _ h, ey, ez, ex⟩
theorem sm_co_fun {E : sm_T} {a b c d : Nat} (h2 : sm_fun E) (h3 : sm_irr E) (h4 : sm_opp E) (hc : sm_cc E a b c d) : sm_fun (sm_co E a b c d) := by
  rintro x y z w ⟨x', y', z', h, ex, ey, ez⟩ ⟨x1, y1, z1, k, fx, fy, fz⟩
  obtain ⟨g1, g2⟩ := sm_D_inj h2 h3 h4 hc h k (by rw [← ex, ← fx]) (by rw [← ey, ← fy])
  subst g1 g2
  rw [ez, fz, h2 _ _ _ _ h.1.1 k.1.1]
theorem sm_co_irr {E : sm_T} {a b c d : Nat} (h2 : sm_fun E) (h3 : sm_irr E) (hq : sm_quad E a b c d) : sm_irr (sm_co E a b c d) := by
  rintro x y z ⟨x', y', z', h, ex, ey, ez⟩
  have g := sm_D_ne h2 hq h
  have i := h3 _ _ _ h.1.1
  subst ex ey
  unfold sm_s
  clear h h2 h3 hq
  split <;> split <;> omega
theorem sm_co_opp {E : sm_T} {a b c d : Nat} (h2 : sm_fun E) (h4 : sm_opp E) (hq : sm_quad E a b c d) : sm_opp (sm_co E a b c d) := by
  rintro x y z ⟨x', y', z', h, ex, ey, ez⟩
  have g := sm_D_ne h2 hq h
  obtain ⟨⟨p, hp⟩, ⟨q, hq'⟩, ⟨r, hr⟩, ⟨t, ht⟩⟩ := sm_cc_sides h4 hq
  obtain ⟨w, hw⟩ := h4 _ _ _ h.1.1
  obtain ⟨_, _, n1, n2, n3, n4, n5, n6⟩ := hq
  subst ex ey
  by_cases c1 : y' = b ∧ x' = c
  · obtain ⟨rfl, rfl⟩ := c1
    exact ⟨_, a, x', p, hp, by rw [sm_s_b, sm_s_n n1], rfl, rfl⟩
  · by_cases c2 : y' = c ∧ x' = a
    · obtain ⟨rfl, rfl⟩ := c2
      exact ⟨_, y', b, q, hq', rfl, by rw [sm_s_b, sm_s_n n1], rfl⟩
    · by_cases c3 : y' = a ∧ x' = d
      · obtain ⟨rfl, rfl⟩ := c3
        exact ⟨_, b, x', r, hr, by rw [sm_s_b, sm_s_n n1], rfl, rfl⟩
      · by_cases c4 : y' = d ∧ x' = b
        · obtain ⟨rfl, rfl⟩ := c4
          exact ⟨_, y', a, t, ht, rfl, by rw [sm_s_b, sm_s_n n1], rfl⟩
        · exact ⟨_, y', x', w, sm_D_of hw (by clear h hw hp hq' hr ht h2 h4; omega), rfl, rfl, rfl⟩
/-- no lone tetrahedron -/
theorem sm_cc_far {E : sm_T} {a b c d : Nat} (h1 : sm_rot E) (h2 : sm_fun E) (h6 : sm_ring E) (h7 : sm_con E) (hc : sm_cc E a b c d) (k1 : E c d a) (k2 : E d c b) : False := by
  obtain ⟨⟨⟨e1, e2, e3⟩, ⟨e4, e5, e6⟩, n1, n2, n3, n4, n5, n6⟩, _, v, y, z, hv, v1, v2, v3, v4⟩ := hc
  have k3 := h1 _ _ _ k1
  have k4 := h1 _ _ _ k3
  have k5 := h1 _ _ _ k2
  have k6 := h1 _ _ _ k5
  have one : ∀ p q r s, E p q r → E p r s → E p s q → ∀ y z, E p y z → y = q ∨ y = r ∨ y = s := by
    intro p q r s g1 g2 g3 y z g
    refine h6 (fun y => y = q ∨ y = r ∨ y = s) p ?_ _ _ _ _ g1 g (Or.inl rfl)
    rintro u w t (rfl | rfl | rfl)
    · exact Or.inr (Or.inl (h2 _ _ _ _ t g1))
    · exact Or.inr (Or.inr (h2 _ _ _ _ t g2))
    · exact Or.inl (h2 _ _ _ _ t g3)
  have cl : ∀ x y z, E x y z → (x = a ∨ x = b ∨ x = c ∨ x = d) → (y = a ∨ y = b ∨ y = c ∨ y = d) := by
    rintro x y z g (rfl | rfl | rfl | rfl)
    · have := one _ _ _ _ e1 k4 e5 _ _ g; omega
    · have := one _ _ _ _ e4 k6 e2 _ _ g; omega
    · have := one _ _ _ _ e3 k5 k1 _ _ g; omega
    · have := one _ _ _ _ e6 k3 k2 _ _ g; omega
  have := h7 (fun x => x = a ∨ x = b ∨ x = c ∨ x = d) cl _ _ _ _ _ _ e1 hv (Or.inl rfl)
  omega
end
section
/-! an edge drawn together: degrees, rings, connected -/
theorem sm_D_no {E : sm_T} {a b c d x y z : Nat} (h1 : sm_rot E) (h2 : sm_fun E) (hq : sm_quad E a b c d) (h : sm_D E a b c d x y z) : ¬ (x = a ∧ z = b) ∧ ¬ (x = b ∧ z = a) ∧ ¬ (y = a ∧ z = b) ∧ ¬ (y = b ∧ z = a) := by
  have g1 := sm_D_ne h2 hq (sm_D_rot h1 _ _ _ h)
  have g2 := sm_D_ne h2 hq (sm_D_rot h1 _ _ _ (sm_D_rot h1 _ _ _ h))
  exact ⟨fun t => g2.2.2.2.1 ⟨t.2, t.1⟩, fun t => g2.1 ⟨t.2, t.1⟩, g1.1, g1.2.2.2.1⟩
/-- the glued pairs -/
theorem sm_cc_glue1 {E : sm_T} {a b c d : Nat} (hk : sm_ok E) (hc : sm_cc E a b c d) {z w : Nat} (h : sm_D E a b c d d a z) (k : sm_D E a b c d b d w) : sm_s a b z ≠ sm_s a b w := by
  obtain ⟨h1, h2, h3, h4, h5, h6, h7⟩ := hk
  have hc0 := hc
  obtain ⟨hq, hb, _⟩ := hc
  intro e
  have g := sm_D_no h1 h2 hq h
  have g' := sm_D_no h1 h2 hq k
  have e1 := h.1.1
  have e2 := h1 _ _ _ e1
  have e3 := h1 _ _ _ e2
  have f1 := k.1.1
  have f2 := h1 _ _ _ f1
  have f3 := h1 _ _ _ f2
  rcases sm_s_eq e with X | ⟨X, X'⟩ | ⟨X, X'⟩
  · subst X
    rcases sm_cc_both h4 hb (Or.inl ⟨_, e2⟩) (Or.inr ⟨_, f3⟩) with q | q
    · subst q
      exact sm_cc_far h1 h2 h6 h7 hc0 e3 f2
    · exact absurd q (h3 _ _ _ e3)
  · exact h3 _ _ _ e2 X.symm
  · exact g.2.2.1 ⟨rfl, X⟩
theorem sm_cc_glue2 {E : sm_T} {a b c d : Nat} (hk : sm_ok E) (hc : sm_cc E a b c d) {z w : Nat} (h : sm_D E a b c d a c z) (k : sm_D E a b c d c b w) : sm_s a b z ≠ sm_s a b w := by
  obtain ⟨h1, h2, h3, h4, h5, h6, h7⟩ := hk
  have hc0 := hc
  obtain ⟨hq, hb, _⟩ := hc
  intro e
  have g := sm_D_no h1 h2 hq h
  have g' := sm_D_no h1 h2 hq k
  have e1 := h.1.1
  have e2 := h1 _ _ _ e1
  have e3 := h1 _ _ _ e2
  have f1 := k.1.1
  have f2 := h1 _ _ _ f1
  have f3 := h1 _ _ _ f2
  rcases sm_s_eq e with X | ⟨X, X'⟩ | ⟨X, X'⟩
  · subst X
    rcases sm_cc_both h4 hb (Or.inr ⟨_, e3⟩) (Or.inl ⟨_, f2⟩) with q | q
    · exact absurd q.symm (h3 _ _ _ e2)
    · subst q
      exact sm_cc_far h1 h2 h6 h7 hc0 e2 f3
  · exact h3 _ _ _ e3 X
  · exact g.1 ⟨rfl, X⟩
theorem sm_co_fat {E : sm_T} {a b c d : Nat} (hk : sm_ok E) (hc : sm_cc E a b c d) : sm_fat (sm_co E a b c d) := by
  have hk0 := hk
  obtain ⟨h1, h2, h3, h4, h5, h6, h7⟩ := hk
  have hc0 := hc
  obtain ⟨hq, hb, _⟩ := hc
  rintro x y z w ⟨x1, y1, z1, h, ex, ey, ez⟩ ⟨y2, x2, w2, k, fy, fx, fw⟩ e
  have g := sm_D_ne h2 hq h
  have g' := sm_D_ne h2 hq k
  have r1 := sm_D_no h1 h2 hq h
  have r2 := sm_D_no h1 h2 hq k
  have e1 := h.1.1
  have e2 := h1 _ _ _ e1
  have e3 := h1 _ _ _ e2
  have f1 := k.1.1
  have f2 := h1 _ _ _ f1
  have f3 := h1 _ _ _ f2
  have eX : sm_s a b x1 = sm_s a b x2 := ex.symm.trans fx
  have eY : sm_s a b y1 = sm_s a b y2 := ey.symm.trans fy
  have eZ : sm_s a b z1 = sm_s a b w2 := ez.symm.trans (e.trans fw)
  rcases sm_s_eq eX with X | ⟨X, X'⟩ | ⟨X, X'⟩ <;> rcases sm_s_eq eY with Y | ⟨Y, Y'⟩ | ⟨Y, Y'⟩
  · subst X Y
    rcases sm_s_eq eZ with Z | ⟨Z, Z'⟩ | ⟨Z, Z'⟩
    · exact h5 _ _ _ _ e1 f1 Z
    · subst Z Z'
      have bx := sm_cc_both h4 hb (x := x1) (Or.inl ⟨_, e3⟩) (Or.inr ⟨_, f2⟩)
      have b_y := sm_cc_both h4 hb (x := y1) (Or.inr ⟨_, e2⟩) (Or.inl ⟨_, f3⟩)
      have ne := h3 _ _ _ e1
      rcases bx with q | q <;> rcases b_y with r | r
      · exact ne (q.trans r.symm)
      · subst q r
        exact sm_cc_far h1 h2 h6 h7 hc0 e1 f1
      · subst q r
        have := h2 _ _ _ _ e2 hq.1.2.2
        exact hq.2.2.2.2.2.2.1 this.symm
      · exact ne (q.trans r.symm)
    · subst Z Z'
      have bx := sm_cc_both h4 hb (x := x1) (Or.inr ⟨_, f2⟩) (Or.inl ⟨_, e3⟩)
      have b_y := sm_cc_both h4 hb (x := y1) (Or.inl ⟨_, f3⟩) (Or.inr ⟨_, e2⟩)
      have ne := h3 _ _ _ e1
      rcases bx with q | q <;> rcases b_y with r | r
      · exact ne (q.trans r.symm)
      · subst q r
        have := h2 _ _ _ _ e2 hq.2.1.2.2
        exact hq.2.2.2.2.1 this
      · subst q r
        exact sm_cc_far h1 h2 h6 h7 hc0 f1 e1
      · exact ne (q.trans r.symm)
  · subst X Y Y'
    rcases sm_cc_both h4 hb (x := x1) (Or.inr ⟨_, e1⟩) (Or.inl ⟨_, f1⟩) with q | q
    · exact g.2.2.1 ⟨q, rfl⟩
    · subst q
      exact sm_cc_glue1 hk0 hc0 h k eZ
  · subst X Y Y'
    rcases sm_cc_both h4 hb (x := x1) (Or.inl ⟨_, f1⟩) (Or.inr ⟨_, e1⟩) with q | q
    · subst q
      exact sm_cc_glue2 hk0 hc0 k h eZ.symm
    · exact g.2.2.2.2.2 ⟨q, rfl⟩
  · subst Y X X'
    rcases sm_cc_both h4 hb (x := y1) (Or.inl ⟨_, e1⟩) (Or.inr ⟨_, f1⟩) with q | q
    · subst q
      exact sm_cc_glue2 hk0 hc0 h k eZ
    · exact g.2.2.2.2.1 ⟨rfl, q⟩
  · exact h3 _ _ _ e1 (X.trans Y.symm)
  · exact g.1 ⟨X, Y⟩
  · subst Y X X'
    rcases sm_cc_both h4 hb (x := y1) (Or.inr ⟨_, f1⟩) (Or.inl ⟨_, e1⟩) with q | q
    · exact g.2.1 ⟨rfl, q⟩
    · subst q
      exact sm_cc_glue1 hk0 hc0 k h eZ.symm
  · exact g.2.2.2.1 ⟨X, Y⟩
  · exact h3 _ _ _ e1 (X.trans Y.symm)
theorem sm_co_ring {E : sm_T} {a b c d : Nat} (hk : sm_ok E) (hc : sm_cc E a b c d) : sm_ring (sm_co E a b c d) := by
  obtain ⟨h1, h2, h3, h4, h5, h6, h7⟩ := hk
  obtain ⟨hq, hb, _⟩ := hc
  have hq0 := hq
  obtain ⟨⟨e1, e2, e3⟩, ⟨e4, e5, e6⟩, n1, n2, n3, n4, n5, n6⟩ := hq
  intro P u hP y z y' z' k k' py
  obtain ⟨x1, y1, z1, k, ex, ey, ez⟩ := k
  obtain ⟨x2, y2, z2, k', fx, fy, fz⟩ := k'
  by_cases ua : u = a
  · have PA : ∀ w w', sm_D E a b c d a w w' → P w → P w' := by
      intro w w' t pw
      have g := sm_D_ne h2 hq0 t
      have r := sm_D_no h1 h2 hq0 t
      refine hP w w' ⟨a, w, w', t, ?_, ?_, ?_⟩ pw
      · rw [sm_s_n n1, ua]
      · rw [sm_s_n (fun q => g.1 ⟨rfl, q⟩)]
      · rw [sm_s_n (fun q => r.1 ⟨rfl, q⟩)]
    have PB : ∀ w w', sm_D E a b c d b w w' → P w → P w' := by
      intro w w' t pw
      have i1 := h3 _ _ _ t.1.1
      have i2 := h3 _ _ _ (h1 _ _ _ (h1 _ _ _ t.1.1))
      refine hP w w' ⟨b, w, w', t, ?_, ?_, ?_⟩ pw
      · rw [sm_s_b, ua]
      · rw [sm_s_n i1.symm]
      · rw [sm_s_n i2]
    have FA : P c → ∀ w w', E a w w' → w ≠ b → P w := by
      intro pc w w' t
      refine h6 (fun w => w ≠ b → P w) a ?_ _ _ _ _ e1 t (fun q => absurd rfl q)
      intro w w' t hw nb
      by_cases wb : w = b
      · subst wb
        rw [h2 _ _ _ _ t e1]
        exact pc
      · by_cases wd : w = d
        · subst wd
          exact absurd (h2 _ _ _ _ t e5) nb
        · exact PA w w' (sm_D_of t (by omega)) (hw wb)
    have FB : P d → ∀ w w', E b w w' → w ≠ a → P w := by
      intro pd w w' t
      refine h6 (fun w => w ≠ a → P w) b ?_ _ _ _ _ e4 t (fun q => absurd rfl q)
      intro w w' t hw nb
      by_cases wb : w = a
      · subst wb
        rw [h2 _ _ _ _ t e4]
        exact pd
      · by_cases wd : w = c
        · subst wd
          exact absurd (h2 _ _ _ _ t e2) nb
        · exact PB w w' (sm_D_of t (by omega)) (hw wb)
    have BA : ∀ w w', E a w w' → w ≠ b → P w → P d := by
      intro w w' t nb pw
      apply Classical.byContradiction
      intro nd
      refine (h6 (fun w => w ≠ b ∧ P w) a ?_ _ _ _ _ t e1 ⟨nb, pw⟩).1 rfl
      rintro w w' t ⟨nb, pw⟩
      by_cases wd : w = d
      · subst wd
        exact absurd pw nd
      · refine ⟨fun q => ?_, PA w w' (sm_D_of t (by omega)) pw⟩
        subst q
        exact wd (h2 _ _ _ _ (h1 _ _ _ (h1 _ _ _ t)) e4)
    have BB : ∀ w w', E b w w' → w ≠ a → P w → P c := by
      intro w w' t nb pw
      apply Classical.byContradiction
      intro nd
      refine (h6 (fun w => w ≠ a ∧ P w) b ?_ _ _ _ _ t e4 ⟨nb, pw⟩).1 rfl
      rintro w w' t ⟨nb, pw⟩
      by_cases wd : w = c
      · subst wd
        exact absurd pw nd
      · refine ⟨fun q => ?_, PB w w' (sm_D_of t (by omega)) pw⟩
        subst q
        exact wd (h2 _ _ _ _ (h1 _ _ _ (h1 _ _ _ t)) e1)
    have sa : ∀ x, a = sm_s a b x → x = a ∨ x = b := by
      intro x t
      unfold sm_s at t
      split at t
      · right; assumption
      · left; exact t.symm
    have g := sm_D_ne h2 hq0 k
    have g' := sm_D_ne h2 hq0 k'
    have i := h3 _ _ _ k.1.1
    have i' := h3 _ _ _ k'.1.1
    have both : P c ∧ P d := by
      rcases sa x1 (ua ▸ ex) with q | q
      · have nb : y1 ≠ b := fun r => g.1 ⟨q, r⟩
        rw [sm_s_n nb] at ey
        have pd := BA y1 z1 (q ▸ k.1.1) nb (ey ▸ py)
        exact ⟨FB pd c a e2 n3, pd⟩
      · have nb : y1 ≠ b := fun r => i (q.trans r.symm)
        rw [sm_s_n nb] at ey
        have pc := BB y1 z1 (q ▸ k.1.1) (fun r => g.2.2.2.1 ⟨q, r⟩) (ey ▸ py)
        exact ⟨pc, FA pc d b e5 n5.symm⟩
    rcases sa x2 (ua ▸ fx) with q | q
    · have nb : y2 ≠ b := fun r => g'.1 ⟨q, r⟩
      rw [sm_s_n nb] at fy
      rw [fy]
      exact FA both.1 y2 z2 (q ▸ k'.1.1) nb
    · have nb : y2 ≠ b := fun r => i' (q.trans r.symm)
      rw [sm_s_n nb] at fy
      rw [fy]
      exact FB both.2 y2 z2 (q ▸ k'.1.1) (fun r => g'.2.2.2.1 ⟨q, r⟩)
  · have su : ∀ x, u = sm_s a b x → x = u ∧ u ≠ b := by
      intro x t
      unfold sm_s at t
      split at t
      · exact absurd t ua
      · rename_i nb
        exact ⟨t.symm, t ▸ nb⟩
    obtain ⟨q1, ub⟩ := su x1 ex
    obtain ⟨q2, _⟩ := su x2 fx
    subst q1 q2
    have cl : ∀ w w', E x2 w w' → P (sm_s a b w) → P (sm_s a b w') := by
      intro w w' t pw
      by_cases hcy : sm_cy a b c x2 w w'
      · rcases hcy with ⟨t, t', t''⟩ | ⟨t, t', t''⟩ | ⟨t, t', t''⟩
        · exact absurd t ua
        · exact absurd t ub
        · rw [t', sm_s_n n1] at pw
          rw [t'', sm_s_b]
          exact pw
      · by_cases hcy2 : sm_cy b a d x2 w w'
        · rcases hcy2 with ⟨t, t', t''⟩ | ⟨t, t', t''⟩ | ⟨t, t', t''⟩
          · exact absurd t ub
          · exact absurd t ua
          · rw [t', sm_s_b] at pw
            rw [t'', sm_s_n n1]
            exact pw
        · exact hP _ _ ⟨x2, w, w', ⟨⟨t, hcy⟩, hcy2⟩, ex, rfl, rfl⟩ pw
    rw [fy]
    exact h6 (fun w => P (sm_s a b w)) x2 cl _ _ _ _ k.1.1 k'.1.1 (ey ▸ py)
theorem sm_co_con {E : sm_T} {a b c d : Nat} (hk : sm_ok E) (hc : sm_cc E a b c d) : sm_con (sm_co E a b c d) := by
  obtain ⟨h1, h2, h3, h4, h5, h6, h7⟩ := hk
  obtain ⟨hq, hb, _⟩ := hc
  obtain ⟨⟨p, hp⟩, ⟨q, hq'⟩, ⟨r, hr⟩, ⟨t, ht⟩⟩ := sm_cc_sides h4 hq
  obtain ⟨⟨e1, e2, e3⟩, ⟨e4, e5, e6⟩, n1, n2, n3, n4, n5, n6⟩ := hq
  intro P hP x y z x' y' z' k k' px
  obtain ⟨x1, y1, z1, k, ex, ey, ez⟩ := k
  obtain ⟨x2, y2, z2, k', fx, fy, fz⟩ := k'
  have m1 : P a → P c := fun z => hP a c _ ⟨a, c, p, hp, (sm_s_n n1).symm, (sm_s_n n2.symm).symm, rfl⟩ z
  have m2 : P c → P a := fun z => hP c a _ ⟨c, b, q, hq', (sm_s_n n2.symm).symm, (sm_s_b a b).symm, rfl⟩ z
  have m3 : P a → P d := fun z => hP a d _ ⟨b, d, r, hr, (sm_s_b a b).symm, (sm_s_n n5.symm).symm, rfl⟩ z
  have m4 : P d → P a := fun z => hP d a _ ⟨d, a, t, ht, (sm_s_n n5.symm).symm, (sm_s_n n1).symm, rfl⟩ z
  have sa : sm_s a b a = a := sm_s_n n1
  have sb : sm_s a b b = a := sm_s_b a b
  have sc : sm_s a b c = c := sm_s_n n2.symm
  have sd : sm_s a b d = d := sm_s_n n5.symm
  have cl : ∀ x y z, E x y z → P (sm_s a b x) → P (sm_s a b y) := by
    intro x y z e px
    by_cases hcy : sm_cy a b c x y z
    · rcases hcy with ⟨t, t', t''⟩ | ⟨t, t', t''⟩ | ⟨t, t', t''⟩ <;> subst t t' t''
      · rw [sb]; rw [sa] at px; exact px
      · rw [sc]; rw [sb] at px; exact m1 px
      · rw [sa]; rw [sc] at px; exact m2 px
    · by_cases hcy2 : sm_cy b a d x y z
      · rcases hcy2 with ⟨t, t', t''⟩ | ⟨t, t', t''⟩ | ⟨t, t', t''⟩ <;> subst t t' t''
        · rw [sa]; rw [sb] at px; exact px
        · rw [sd]; rw [sa] at px; exact m3 px
        · rw [sb]; rw [sd] at px; exact m4 px
      · exact hP _ _ _ ⟨x, y, z, ⟨⟨e, hcy⟩, hcy2⟩, rfl, rfl, rfl⟩ px
  rw [fx]
  exact h7 (fun x => P (sm_s a b x)) cl _ _ _ _ _ _ k.1.1 k'.1.1 (ex ▸ px)
theorem sm_co_ok {E : sm_T} {a b c d : Nat} (hk : sm_ok E) (hc : sm_cc E a b c d) : sm_ok (sm_co E a b c d) := by
  have hk0 := hk
  obtain ⟨h1, h2, h3, h4, h5, h6, h7⟩ := hk
  exact ⟨sm_co_rot h1, sm_co_fun h2 h3 h4 hc, sm_co_irr h2 h3 hc.1, sm_co_opp h2 h4 hc.1, sm_co_fat hk0 hc, sm_co_ring hk0 hc, sm_co_con hk0 hc⟩
/-- the vertices behind a collapse -/
theorem sm_co_v {E : sm_T} {a b c d : Nat} (h2 : sm_fun E) (h4 : sm_opp E) (hq : sm_quad E a b c d) (x : Nat) : (∃ y z, sm_co E a b c d x y z) ↔ (∃ y z, E x y z) ∧ x ≠ b := by
  obtain ⟨⟨p, hp⟩, ⟨q, hq'⟩, ⟨r, hr⟩, ⟨t, ht⟩⟩ := sm_cc_sides h4 hq
  obtain ⟨⟨e1, e2, e3⟩, ⟨e4, e5, e6⟩, n1, n2, n3, n4, n5, n6⟩ := hq
  constructor
  · rintro ⟨y, z, x1, y1, z1, k, ex, ey, ez⟩
    unfold sm_s at ex
    split at ex
    · subst ex
      exact ⟨⟨_, _, e1⟩, n1⟩
    · subst ex
      exact ⟨⟨_, _, k.1.1⟩, by assumption⟩
  · rintro ⟨⟨y, z, k⟩, nb⟩
    by_cases hcy : sm_cy a b c x y z
    · rcases hcy with ⟨t, t', t''⟩ | ⟨t, t', t''⟩ | ⟨t, t', t''⟩
      · subst t
        exact ⟨_, _, x, c, p, hp, (sm_s_n nb).symm, rfl, rfl⟩
      · exact absurd t nb
      · subst t
        exact ⟨_, _, x, b, q, hq', (sm_s_n nb).symm, rfl, rfl⟩
    · by_cases hcy2 : sm_cy b a d x y z
      · rcases hcy2 with ⟨t', _, _⟩ | ⟨t', _, _⟩ | ⟨t', _, _⟩
        · exact absurd t' nb
        · subst t'
          exact ⟨_, _, x, c, p, hp, (sm_s_n nb).symm, rfl, rfl⟩
        · subst t'
          exact ⟨_, _, x, a, t, ht, (sm_s_n nb).symm, rfl, rfl⟩
      · exact ⟨_, _, x, y, z, ⟨⟨k, hcy⟩, hcy2⟩, (sm_s_n nb).symm, rfl, rfl⟩
end
section
/-! vertices of the new pictures -/
theorem sm_sf_v {E : sm_T} {a b c v : Nat} (h1 : sm_rot E) (h : E a b c) (x : Nat) : (∃ y z, sm_sf E a b c v x y z) ↔ (∃ y z, E x y z) ∨ x = v := by
  have e1 := h1 _ _ _ h
  have e2 := h1 _ _ _ e1
  constructor
  · rintro ⟨y, z, (((⟨k, _⟩ | k) | k) | k)⟩
    · exact Or.inl ⟨_, _, k⟩
    all_goals
      rcases k with ⟨t, _, _⟩ | ⟨t, _, _⟩ | ⟨t, _, _⟩
      · subst t; exact Or.inl ⟨_, _, by assumption⟩
      · subst t; exact Or.inl ⟨_, _, by assumption⟩
      · exact Or.inr t
  · rintro (⟨y, z, k⟩ | k)
    · by_cases hc : sm_cy a b c x y z
      · rcases hc with ⟨t, _, _⟩ | ⟨t, _, _⟩ | ⟨t, _, _⟩ <;> subst t
        · exact ⟨b, v, by unfold sm_sf sm_cy; simp⟩
        · exact ⟨c, v, by unfold sm_sf sm_cy; simp⟩
        · exact ⟨a, v, by unfold sm_sf sm_cy; simp⟩
      · exact ⟨y, z, Or.inl (Or.inl (Or.inl ⟨k, hc⟩))⟩
    · subst k
      exact ⟨a, b, by unfold sm_sf sm_cy; simp⟩
theorem sm_fl_v {E : sm_T} {a b c d : Nat} (hq : sm_quad E a b c d) (x : Nat) : (∃ y z, sm_fl E a b c d x y z) ↔ (∃ y z, E x y z) := by
  obtain ⟨⟨e1, e2, e3⟩, ⟨e4, e5, e6⟩, n1, n2, n3, n4, n5, n6⟩ := hq
  constructor
  · rintro ⟨y, z, ((⟨⟨k, _⟩, _⟩ | k) | k)⟩
    · exact ⟨_, _, k⟩
    all_goals
      rcases k with ⟨t, _, _⟩ | ⟨t, _, _⟩ | ⟨t, _, _⟩ <;> subst t <;> exact ⟨_, _, by assumption⟩
  · rintro ⟨y, z, k⟩
    by_cases hc : sm_cy a b c x y z
    · rcases hc with ⟨t, _, _⟩ | ⟨t, _, _⟩ | ⟨t, _, _⟩ <;> subst t
      · exact ⟨d, c, by unfold sm_fl sm_cy; simp⟩
      · exact ⟨c, d, by unfold sm_fl sm_cy; simp⟩
      · exact ⟨a, d, by unfold sm_fl sm_cy; simp⟩
    · by_cases hd : sm_cy b a d x y z
      · rcases hd with ⟨t, _, _⟩ | ⟨t, _, _⟩ | ⟨t, _, _⟩ <;> subst t
        · exact ⟨c, d, by unfold sm_fl sm_cy; simp⟩
        · exact ⟨d, c, by unfold sm_fl sm_cy; simp⟩
        · exact ⟨b, c, by unfold sm_fl sm_cy; simp⟩
      · exact ⟨y, z, Or.inl (Or.inl ⟨⟨k, hc⟩, hd⟩)⟩
/-! arrows -/
def sm_nx (h : Nat) : Nat := if h % 3 = 2 then h - 2 else h + 1
def sm_bf (h : Nat) : Nat := if h % 3 = 0 then h + 2 else h - 1
theorem sm_nx_3 (h : Nat) : sm_nx h / 3 = h / 3 := by unfold sm_nx; split <;> omega
theorem sm_bf_3 (h : Nat) : sm_bf h / 3 = h / 3 := by unfold sm_bf; split <;> omega
theorem sm_nx_bf (h : Nat) : sm_nx (sm_bf h) = h := by unfold sm_nx sm_bf; split <;> split <;> omega
theorem sm_bf_nx (h : Nat) : sm_bf (sm_nx h) = h := by unfold sm_nx sm_bf; split <;> split <;> omega
theorem sm_nx_nx (h : Nat) : sm_nx (sm_nx h) = sm_bf h := by
  unfold sm_nx sm_bf
  repeat' split
  all_goals omega
theorem sm_bf_bf (h : Nat) : sm_bf (sm_bf h) = sm_nx h := by
  unfold sm_nx sm_bf
  repeat' split
  all_goals omega
theorem sm_nx_0 (f : Nat) : sm_nx (3 * f) = 3 * f + 1 := by unfold sm_nx; split <;> omega
theorem sm_nx_1 (f : Nat) : sm_nx (3 * f + 1) = 3 * f + 2 := by unfold sm_nx; split <;> omega
theorem sm_nx_2 (f : Nat) : sm_nx (3 * f + 2) = 3 * f := by unfold sm_nx; split <;> omega
theorem sm_bf_0 (f : Nat) : sm_bf (3 * f) = 3 * f + 2 := by unfold sm_bf; split <;> omega
theorem sm_bf_1 (f : Nat) : sm_bf (3 * f + 1) = 3 * f := by unfold sm_bf; split <;> omega
theorem sm_bf_2 (f : Nat) : sm_bf (3 * f + 2) = 3 * f + 1 := by unfold sm_bf; split <;> omega
theorem sm_same {h g : Nat} (e : g / 3 = h / 3) : g = h ∨ g = sm_nx h ∨ g = sm_bf h := by
  unfold sm_nx sm_bf
  repeat' split
  all_goals omega
theorem sm_three (h : Nat) : h = 3 * (h / 3) ∨ h = 3 * (h / 3) + 1 ∨ h = 3 * (h / 3) + 2 := by omega
/-! arrays of naturals -/
def sm_up (f : Nat → Nat) (k x : Nat) : Nat → Nat := fun j => if j = k then x else f j
theorem sm_up_s (f : Nat → Nat) (k x : Nat) : sm_up f k x k = x := if_pos rfl
theorem sm_up_n {f : Nat → Nat} {k x j : Nat} (h : j ≠ k) : sm_up f k x j = f j := if_neg h
def sm_wr (fr : Nat → Nat) (f a b c : Nat) : Nat → Nat := sm_up (sm_up (sm_up fr (3 * f) a) (3 * f + 1) b) (3 * f + 2) c
theorem sm_wr_0 (fr : Nat → Nat) (f a b c : Nat) : sm_wr fr f a b c (3 * f) = a := by
  unfold sm_wr
  rw [sm_up_n (by omega), sm_up_n (by omega), sm_up_s]
theorem sm_wr_1 (fr : Nat → Nat) (f a b c : Nat) : sm_wr fr f a b c (3 * f + 1) = b := by
  unfold sm_wr
  rw [sm_up_n (by omega), sm_up_s]
theorem sm_wr_2 (fr : Nat → Nat) (f a b c : Nat) : sm_wr fr f a b c (3 * f + 2) = c := by
  unfold sm_wr
  rw [sm_up_s]
theorem sm_wr_n {fr : Nat → Nat} {f a b c h : Nat} (n : h / 3 ≠ f) : sm_wr fr f a b c h = fr h := by
  unfold sm_wr
  rw [sm_up_n (by omega), sm_up_n (by omega), sm_up_n (by omega)]
theorem sm_wr_n0 {fr : Nat → Nat} {f g a b c : Nat} (n : g ≠ f) : sm_wr fr f a b c (3 * g) = fr (3 * g) := sm_wr_n (by omega)
theorem sm_wr_n1 {fr : Nat → Nat} {f g a b c : Nat} (n : g ≠ f) : sm_wr fr f a b c (3 * g + 1) = fr (3 * g + 1) := sm_wr_n (by omega)
theorem sm_wr_n2 {fr : Nat → Nat} {f g a b c : Nat} (n : g ≠ f) : sm_wr fr f a b c (3 * g + 2) = fr (3 * g + 2) := sm_wr_n (by omega)
/-! arrows and the picture -/
def sm_R (fs : Nat → Prop) (fr : Nat → Nat) (E : sm_T) : Prop := (∀ h, fs (h / 3) → E (fr h) (fr (sm_nx h)) (fr (sm_bf h))) ∧ (∀ x y z, E x y z → ∃ h, fs (h / 3) ∧ fr h = x ∧ fr (sm_nx h) = y ∧ fr (sm_bf h) = z) ∧ (∀ h g, fs (h / 3) → fs (g / 3) → fr h = fr g → fr (sm_nx h) = fr (sm_nx g) → h = g)
theorem sm_R_congr {fs fs' : Nat → Prop} {fr : Nat → Nat} {E : sm_T} (h : ∀ q, fs' q ↔ fs q) (hr : sm_R fs fr E) : sm_R fs' fr E := by
  have : fs' = fs := funext (fun q => propext (h q))
  rw [this]
  exact hr
theorem sm_rm {fs : Nat → Prop} {fr : Nat → Nat} {E : sm_T} {h a b c : Nat} (hr : sm_R fs fr E) (hh : fs (h / 3)) (ea : fr h = a) (eb : fr (sm_nx h) = b) (ec : fr (sm_bf h) = c) :
    sm_R (fun q => fs q ∧ q ≠ h / 3) fr (fun x y z => E x y z ∧ ¬ sm_cy a b c x y z) := by
  obtain ⟨r1, r2, r3⟩ := hr
  refine ⟨?_, ?_, ?_⟩
  · rintro g ⟨hg, ng⟩
    refine ⟨r1 g hg, ?_⟩
    rintro (⟨t1, t2, t3⟩ | ⟨t1, t2, t3⟩ | ⟨t1, t2, t3⟩)
    · exact ng (congrArg (· / 3) (r3 g h hg hh (t1.trans ea.symm) (t2.trans eb.symm)))
    · have := r3 g (sm_nx h) hg (by rw [sm_nx_3]; exact hh) (t1.trans eb.symm) (by rw [sm_nx_nx]; exact t2.trans ec.symm)
      exact ng (by rw [this, sm_nx_3])
    · have := r3 g (sm_bf h) hg (by rw [sm_bf_3]; exact hh) (t1.trans ec.symm) (by rw [sm_nx_bf]; exact t2.trans ea.symm)
      exact ng (by rw [this, sm_bf_3])
  · rintro x y z ⟨e, nc⟩
    obtain ⟨g, hg, t1, t2, t3⟩ := r2 _ _ _ e
    refine ⟨g, ⟨hg, fun q => nc ?_⟩, t1, t2, t3⟩
    rcases sm_same q with rfl | rfl | rfl
    · exact Or.inl ⟨t1.symm.trans ea, t2.symm.trans eb, t3.symm.trans ec⟩
    · rw [sm_nx_nx] at t2
      rw [sm_bf_nx] at t3
      exact Or.inr (Or.inl ⟨t1.symm.trans eb, t2.symm.trans ec, t3.symm.trans ea⟩)
    · rw [sm_nx_bf] at t2
      rw [sm_bf_bf] at t3
      exact Or.inr (Or.inr ⟨t1.symm.trans ec, t2.symm.trans ea, t3.symm.trans eb⟩)
  · rintro g g' ⟨hg, _⟩ ⟨hg', _⟩ t1 t2
    exact r3 g g' hg hg' t1 t2
theorem sm_ad {fs : Nat → Prop} {fr : Nat → Nat} {E : sm_T} {f a b c : Nat} (hr : sm_R fs fr E) (hf : ¬ fs f) (n1 : a ≠ b) (n2 : b ≠ c) (n3 : c ≠ a) (m1 : ∀ z, ¬ E a b z) (m2 : ∀ z, ¬ E b c z) (m3 : ∀ z, ¬ E c a z) :
    sm_R (fun q => fs q ∨ q = f) (sm_wr fr f a b c) (fun x y z => E x y z ∨ sm_cy a b c x y z) := by
  obtain ⟨r1, r2, r3⟩ := hr
  have old : ∀ h, fs (h / 3) → sm_wr fr f a b c h = fr h ∧ sm_wr fr f a b c (sm_nx h) = fr (sm_nx h) ∧ sm_wr fr f a b c (sm_bf h) = fr (sm_bf h) := by
    intro h hh
    have n : h / 3 ≠ f := fun q => hf (q ▸ hh)
    exact ⟨sm_wr_n n, sm_wr_n (by rw [sm_nx_3]; exact n), sm_wr_n (by rw [sm_bf_3]; exact n)⟩
  have new : ∀ h, h / 3 = f → (h = 3 * f ∧ sm_wr fr f a b c h = a ∧ sm_wr fr f a b c (sm_nx h) = b ∧ sm_wr fr f a b c (sm_bf h) = c) ∨ (h = 3 * f + 1 ∧ sm_wr fr f a b c h = b ∧ sm_wr fr f a b c (sm_nx h) = c ∧ sm_wr fr f a b c (sm_bf h) = a) ∨ (h = 3 * f + 2 ∧ sm_wr fr f a b c h = c ∧ sm_wr fr f a b c (sm_nx h) = a ∧ sm_wr fr f a b c (sm_bf h) = b) := by
    intro h e
    subst e
    rcases sm_three h with e | e | e
    · rw [← e]
      refine Or.inl ⟨rfl, ?_, ?_, ?_⟩
      · conv => lhs; arg 6; rw [e]
        exact sm_wr_0 _ _ _ _ _
      · conv => lhs; arg 6; rw [e, sm_nx_0]
        exact sm_wr_1 _ _ _ _ _
      · conv => lhs; arg 6; rw [e, sm_bf_0]
        exact sm_wr_2 _ _ _ _ _
    · refine Or.inr (Or.inl ⟨e, ?_, ?_, ?_⟩)
      · conv => lhs; arg 6; rw [e]
        exact sm_wr_1 _ _ _ _ _
      · conv => lhs; arg 6; rw [e, sm_nx_1]
        exact sm_wr_2 _ _ _ _ _
      · conv => lhs; arg 6; rw [e, sm_bf_1]
        exact sm_wr_0 _ _ _ _ _
    · refine Or.inr (Or.inr ⟨e, ?_, ?_, ?_⟩)
      · conv => lhs; arg 6; rw [e]
        exact sm_wr_2 _ _ _ _ _
      · conv => lhs; arg 6; rw [e, sm_nx_2]
        exact sm_wr_0 _ _ _ _ _
      · conv => lhs; arg 6; rw [e, sm_bf_2]
        exact sm_wr_1 _ _ _ _ _
  have nE : ∀ x y z w, E x y z → sm_cy a b c x y w → False := by
    intro x y z w e hc
    rcases hc with ⟨t1, t2, _⟩ | ⟨t1, t2, _⟩ | ⟨t1, t2, _⟩ <;> subst t1 t2
    · exact m1 _ e
    · exact m2 _ e
    · exact m3 _ e
  have newc : ∀ h, h / 3 = f → sm_cy a b c (sm_wr fr f a b c h) (sm_wr fr f a b c (sm_nx h)) (sm_wr fr f a b c (sm_bf h)) := by
    intro h e
    rcases new h e with ⟨_, t1, t2, t3⟩ | ⟨_, t1, t2, t3⟩ | ⟨_, t1, t2, t3⟩
    · exact Or.inl ⟨t1, t2, t3⟩
    · exact Or.inr (Or.inl ⟨t1, t2, t3⟩)
    · exact Or.inr (Or.inr ⟨t1, t2, t3⟩)
  refine ⟨?_, ?_, ?_⟩
  · rintro h (hh | hh)
    · obtain ⟨o1, o2, o3⟩ := old h hh
      rw [o1, o2, o3]
      exact Or.inl (r1 h hh)
    · exact Or.inr (newc h hh)
  · rintro x y z (e | e)
    · obtain ⟨h, hh, t1, t2, t3⟩ := r2 _ _ _ e
      obtain ⟨o1, o2, o3⟩ := old h hh
      exact ⟨h, Or.inl hh, o1.trans t1, o2.trans t2, o3.trans t3⟩
    · rcases e with ⟨t1, t2, t3⟩ | ⟨t1, t2, t3⟩ | ⟨t1, t2, t3⟩ <;> subst t1 t2 t3
      · exact ⟨3 * f, Or.inr (by omega), sm_wr_0 _ _ _ _ _, by rw [sm_nx_0, sm_wr_1], by rw [sm_bf_0, sm_wr_2]⟩
      · exact ⟨3 * f + 1, Or.inr (by omega), sm_wr_1 _ _ _ _ _, by rw [sm_nx_1, sm_wr_2], by rw [sm_bf_1, sm_wr_0]⟩
      · exact ⟨3 * f + 2, Or.inr (by omega), sm_wr_2 _ _ _ _ _, by rw [sm_nx_2, sm_wr_0], by rw [sm_bf_2, sm_wr_1]⟩
  · rintro h g (hh | hh) (hg | hg) t1 t2
    · obtain ⟨o1, o2, o3⟩ := old h hh
      obtain ⟨p1, p2, p3⟩ := old g hg
      exact r3 h g hh hg (by rw [← o1, ← p1, t1]) (by rw [← o2, ← p2, t2])
    · obtain ⟨o1, o2, o3⟩ := old h hh
      have := newc g hg
      rw [← t1, ← t2, o1, o2] at this
      exact (nE _ _ _ _ (r1 h hh) this).elim
    · obtain ⟨o1, o2, o3⟩ := old g hg
      have := newc h hh
      rw [t1, t2, o1, o2] at this
      exact (nE _ _ _ _ (r1 g hg) this).elim
    · rcases new h hh with ⟨q, s1, s2, _⟩ | ⟨q, s1, s2, _⟩ | ⟨q, s1, s2, _⟩ <;> rcases new g hg with ⟨q', s1', s2', _⟩ | ⟨q', s1', s2', _⟩ | ⟨q', s1', s2', _⟩
      · exact q.trans q'.symm
      · exact absurd (s1.symm.trans (t1.trans s1')) n1
      · exact absurd (s1.symm.trans (t1.trans s1')) n3.symm
      · exact absurd (s1.symm.trans (t1.trans s1')) n1.symm
      · exact q.trans q'.symm
      · exact absurd (s1.symm.trans (t1.trans s1')) n2
      · exact absurd (s1.symm.trans (t1.trans s1')) n3
      · exact absurd (s1.symm.trans (t1.trans s1')) n2.symm
      · exact q.trans q'.symm
theorem sm_rn {fs : Nat → Prop} {fr : Nat → Nat} {E : sm_T} (s : Nat → Nat) (hr : sm_R fs fr E) (inj : ∀ x y z x' y' z', E x y z → E x' y' z' → s x = s x' → s y = s y' → x = x' ∧ y = y') :
    sm_R fs (fun h => s (fr h)) (fun x y z => ∃ x' y' z', E x' y' z' ∧ x = s x' ∧ y = s y' ∧ z = s z') := by
  obtain ⟨r1, r2, r3⟩ := hr
  refine ⟨fun h hh => ⟨_, _, _, r1 h hh, rfl, rfl, rfl⟩, ?_, ?_⟩
  · rintro x y z ⟨x', y', z', e, t1, t2, t3⟩
    obtain ⟨h, hh, q1, q2, q3⟩ := r2 _ _ _ e
    exact ⟨h, hh, (congrArg s q1).trans t1.symm, (congrArg s q2).trans t2.symm, (congrArg s q3).trans t3.symm⟩
  · intro h g hh hg t1 t2
    obtain ⟨q1, q2⟩ := inj _ _ _ _ _ _ (r1 h hh) (r1 g hg) t1 t2
    exact r3 h g hh hg q1 q2
end
section
/-! arrow against arrow -/
def sm_L (fs : Nat → Prop) (fr ag : Nat → Nat) (S : Nat → Prop) : Prop := ∀ h, fs (h / 3) → S h → fs (ag h / 3) ∧ fr (ag h) = fr (sm_nx h) ∧ fr (sm_nx (ag h)) = fr h
def sm_lk (ag : Nat → Nat) (x y : Nat) : Nat → Nat := sm_up (sm_up ag x y) y x
theorem sm_L_lk {fs : Nat → Prop} {fr ag : Nat → Nat} {S : Nat → Prop} {x y : Nat} (h : sm_L fs fr ag S) (hx : fs (x / 3)) (hy : fs (y / 3)) (e1 : fr x = fr (sm_nx y)) (e2 : fr (sm_nx x) = fr y) : sm_L fs fr (sm_lk ag x y) (fun h => S h ∨ h = x ∨ h = y) := by
  intro g hg s
  unfold sm_lk
  by_cases gy : g = y
  · subst gy
    rw [sm_up_s]
    exact ⟨hx, e1, e2⟩
  · by_cases gx : g = x
    · subst gx
      rw [sm_up_n gy, sm_up_s]
      exact ⟨hy, e2.symm, e1.symm⟩
    · rw [sm_up_n gy, sm_up_n gx]
      rcases s with s | s | s
      · exact h g hg s
      · exact absurd s gx
      · exact absurd s gy
theorem sm_L_all {fs : Nat → Prop} {fr ag : Nat → Nat} {S : Nat → Prop} (h : sm_L fs fr ag S) (hs : ∀ x, fs (x / 3) → S x) : sm_L fs fr ag (fun _ => True) := fun x hx _ => h x hx (hs x hx)
theorem sm_L_congr {fs fs' : Nat → Prop} {fr ag : Nat → Nat} {S : Nat → Prop} (h : ∀ q, fs' q ↔ fs q) (hr : sm_L fs fr ag S) : sm_L fs' fr ag S := by
  have : fs' = fs := funext (fun q => propext (h q))
  rw [this]
  exact hr
/-- a mesh and its picture -/
def sm_M (fs : Nat → Prop) (fr ag : Nat → Nat) (E : sm_T) : Prop := sm_ok E ∧ sm_R fs fr E ∧ sm_L fs fr ag (fun _ => True)
theorem sm_ag_is {fs : Nat → Prop} {fr ag : Nat → Nat} {E : sm_T} (m : sm_M fs fr ag E) {h g : Nat} (hh : fs (h / 3)) (hg : fs (g / 3)) (e1 : fr g = fr (sm_nx h)) (e2 : fr (sm_nx g) = fr h) : ag h = g := by
  obtain ⟨_, ⟨r1, r2, r3⟩, l⟩ := m
  obtain ⟨l1, l2, l3⟩ := l h hh trivial
  exact r3 _ _ l1 hg (l2.trans e1.symm) (l3.trans e2.symm)
theorem sm_ag_ag {fs : Nat → Prop} {fr ag : Nat → Nat} {E : sm_T} (m : sm_M fs fr ag E) {h : Nat} (hh : fs (h / 3)) : ag (ag h) = h := by
  obtain ⟨l1, l2, l3⟩ := m.2.2 h hh trivial
  exact sm_ag_is m l1 hh l3.symm l2.symm
theorem sm_in_face {fr : Nat → Nat} {g h : Nat} (e : g / 3 = h / 3) : (g = h ∧ fr g = fr h ∧ fr (sm_nx g) = fr (sm_nx h)) ∨ (g = sm_nx h ∧ fr g = fr (sm_nx h) ∧ fr (sm_nx g) = fr (sm_bf h)) ∨ (g = sm_bf h ∧ fr g = fr (sm_bf h) ∧ fr (sm_nx g) = fr h) := by
  rcases sm_same e with e | e | e <;> subst e
  · exact Or.inl ⟨rfl, rfl, rfl⟩
  · exact Or.inr (Or.inl ⟨rfl, rfl, by rw [sm_nx_nx]⟩)
  · exact Or.inr (Or.inr ⟨rfl, rfl, by rw [sm_nx_bf]⟩)
theorem sm_ag_face {fs : Nat → Prop} {fr ag : Nat → Nat} {E : sm_T} (m : sm_M fs fr ag E) {h : Nat} (hh : fs (h / 3)) : ag h / 3 ≠ h / 3 := by
  intro e
  obtain ⟨l1, l2, l3⟩ := m.2.2 h hh trivial
  have t := m.2.1.1 h hh
  have n1 := m.1.2.2.1 _ _ _ t
  have n2 := m.1.2.2.1 _ _ _ (m.1.1 _ _ _ t)
  have n3 := m.1.2.2.1 _ _ _ (m.1.1 _ _ _ (m.1.1 _ _ _ t))
  rcases sm_in_face (fr := fr) e with ⟨_, q1, q2⟩ | ⟨_, q1, q2⟩ | ⟨_, q1, q2⟩
  · exact n1 (q1.symm.trans l2)
  · exact n3 (q2.symm.trans l3)
  · exact n2 (l2.symm.trans q1)
/-- an arrow as seen from outside: used, in none of the two faces, its ends -/
def sm_out (fs : Nat → Prop) (fr : Nat → Nat) (f e o x y : Nat) : Prop := fs (o / 3) ∧ o / 3 ≠ f ∧ o / 3 ≠ e ∧ fr o = x ∧ fr (sm_nx o) = y
theorem sm_around4 {fs : Nat → Prop} {fr ag : Nat → Nat} {E : sm_T} (m : sm_M fs fr ag E) {h a b c d : Nat} (hh : fs (h / 3)) (ea : fr h = a) (eb : fr (sm_nx h) = b) (ec : fr (sm_bf h) = c) (ed : fr (sm_bf (ag h)) = d) :
    fs (ag h / 3) ∧ ag h / 3 ≠ h / 3 ∧ fr (ag h) = b ∧ fr (sm_nx (ag h)) = a ∧ sm_quad E a b c d ∧ sm_out fs fr (h / 3) (ag h / 3) (ag (sm_nx h)) c b ∧ sm_out fs fr (h / 3) (ag h / 3) (ag (sm_bf h)) a c ∧ sm_out fs fr (h / 3) (ag h / 3) (ag (sm_nx (ag h))) d a ∧ sm_out fs fr (h / 3) (ag h / 3) (ag (sm_bf (ag h))) b d := by
  obtain ⟨l1, l2, l3⟩ := m.2.2 h hh trivial
  have nf := sm_ag_face m hh
  have E1 := m.2.1.1 h hh
  have E2 := m.2.1.1 (ag h) l1
  rw [ea, eb, ec] at E1
  rw [l2, l3, ea, eb, ed] at E2
  have hq := sm_quad_of m.1.1 m.1.2.2.1 m.1.2.2.2.2.1 E1 E2
  obtain ⟨_, _, n1, n2, n3, n4, n5, n6⟩ := id hq
  rw [eb] at l2
  rw [ea] at l3
  have hn : fs (sm_nx h / 3) := by rw [sm_nx_3]; exact hh
  have hb : fs (sm_bf h / 3) := by rw [sm_bf_3]; exact hh
  have rn : fs (sm_nx (ag h) / 3) := by rw [sm_nx_3]; exact l1
  have rb : fs (sm_bf (ag h) / 3) := by rw [sm_bf_3]; exact l1
  obtain ⟨p1, p2, p3⟩ := m.2.2 _ hn trivial
  obtain ⟨q1, q2, q3⟩ := m.2.2 _ hb trivial
  obtain ⟨s1, s2, s3⟩ := m.2.2 _ rn trivial
  obtain ⟨t1, t2, t3⟩ := m.2.2 _ rb trivial
  have f1 := sm_ag_face m hn
  have f2 := sm_ag_face m hb
  have f3 := sm_ag_face m rn
  have f4 := sm_ag_face m rb
  rw [sm_nx_3] at f1 f3
  rw [sm_bf_3] at f2 f4
  rw [sm_nx_nx, ec] at p2
  rw [eb] at p3
  rw [sm_nx_bf, ea] at q2
  rw [ec] at q3
  rw [sm_nx_nx, ed] at s2
  rw [l3] at s3
  rw [sm_nx_bf, l2] at t2
  rw [ed] at t3
  refine ⟨l1, nf, l2, l3, hq, ⟨p1, f1, ?_, p2, p3⟩, ⟨q1, f2, ?_, q2, q3⟩, ⟨s1, ?_, f3, s2, s3⟩, ⟨t1, ?_, f4, t2, t3⟩⟩
  · intro e
    rcases sm_in_face (fr := fr) e with ⟨_, w1, w2⟩ | ⟨_, w1, w2⟩ | ⟨_, w1, w2⟩
    · rw [p2, l2] at w1; exact n2 w1.symm
    · rw [p2, l3] at w1; exact n3 w1
    · rw [p2, ed] at w1; exact n6 w1
  · intro e
    rcases sm_in_face (fr := fr) e with ⟨_, w1, w2⟩ | ⟨_, w1, w2⟩ | ⟨_, w1, w2⟩
    · rw [q2, l2] at w1; exact n1 w1
    · rw [q3, ed] at w2; exact n6 w2
    · rw [q2, ed] at w1; exact n4 w1
  · intro e
    rcases sm_in_face (fr := fr) e with ⟨_, w1, w2⟩ | ⟨_, w1, w2⟩ | ⟨_, w1, w2⟩
    · rw [s2, ea] at w1; exact n4 w1.symm
    · rw [s2, eb] at w1; exact n5 w1.symm
    · rw [s2, ec] at w1; exact n6 w1.symm
  · intro e
    rcases sm_in_face (fr := fr) e with ⟨_, w1, w2⟩ | ⟨_, w1, w2⟩ | ⟨_, w1, w2⟩
    · rw [t2, ea] at w1; exact n1 w1.symm
    · rw [t3, ec] at w2; exact n6 w2.symm
    · rw [t2, ec] at w1; exact n2 w1
/-- whom an arrow outside a face looks at -/
theorem sm_look {fs : Nat → Prop} {fr ag : Nat → Nat} {E : sm_T} (m : sm_M fs fr ag E) {h x : Nat} (hx : fs (x / 3)) (n1 : x ≠ ag h) (n2 : x ≠ ag (sm_nx h)) (n3 : x ≠ ag (sm_bf h)) : ag x / 3 ≠ h / 3 := by
  intro e
  have xx := sm_ag_ag m hx
  rcases sm_same e with q | q | q <;> rw [q] at xx
  · exact n1 xx.symm
  · exact n2 xx.symm
  · exact n3 xx.symm
theorem sm_cx {a b c x y z : Nat} (h : sm_cy a b c x y z) (h1 : ¬ (x = a ∧ y = b)) (h2 : ¬ (x = b ∧ y = c)) (h3 : ¬ (x = c ∧ y = a)) : False := by
  rcases h with ⟨t1, t2, _⟩ | ⟨t1, t2, _⟩ | ⟨t1, t2, _⟩
  · exact h1 ⟨t1, t2⟩
  · exact h2 ⟨t1, t2⟩
  · exact h3 ⟨t1, t2⟩
theorem sm_cov3 (x f g k A1 A2 A3 : Nat) : ((((((x / 3 ≠ f ∧ x / 3 ≠ g ∧ x / 3 ≠ k ∧ x ≠ A1 ∧ x ≠ A2 ∧ x ≠ A3) ∨ x = 3 * f ∨ x = A1) ∨ x = 3 * g ∨ x = A2) ∨ x = 3 * k ∨ x = A3) ∨ x = 3 * f + 1 ∨ x = 3 * g + 2) ∨ x = 3 * g + 1 ∨ x = 3 * k + 2) ∨ x = 3 * k + 1 ∨ x = 3 * f + 2 := by
  have t := sm_three x
  grind
/-! a face cut in three -/
theorem sm_p_sf {fs : Nat → Prop} {fr ag : Nat → Nat} {E : sm_T} (m : sm_M fs fr ag E) {h a b c v g k : Nat} (hh : fs (h / 3)) (ea : fr h = a) (eb : fr (sm_nx h) = b) (ec : fr (sm_bf h) = c)
    (hv : ∀ y z, ¬ E v y z) (hg : ¬ fs g) (hk : ¬ fs k) (gk : g ≠ k) :
    sm_M (fun q => (fs q ∨ q = g) ∨ q = k) (sm_wr (sm_wr (sm_wr fr (h / 3) a b v) g b c v) k c a v)
      (sm_lk (sm_lk (sm_lk (sm_lk (sm_lk (sm_lk ag (3 * (h / 3)) (ag h)) (3 * g) (ag (sm_nx h))) (3 * k) (ag (sm_bf h))) (3 * (h / 3) + 1) (3 * g + 2)) (3 * g + 1) (3 * k + 2)) (3 * k + 1) (3 * (h / 3) + 2))
      (sm_sf E a b c v) := by
  have m0 := m
  obtain ⟨hok, hr, hl⟩ := m
  have E1 := hr.1 h hh
  rw [ea, eb, ec] at E1
  have E2 := hok.1 _ _ _ E1
  have E3 := hok.1 _ _ _ E2
  have n1 := hok.2.2.1 _ _ _ E1
  have n2 := hok.2.2.1 _ _ _ E2
  have n3 := hok.2.2.1 _ _ _ E3
  obtain ⟨hv2, hv3⟩ := sm_new hok.1 hv
  have va : v ≠ a := fun e => hv _ _ (e ▸ E1)
  have vb : v ≠ b := fun e => hv _ _ (e ▸ E2)
  have vc : v ≠ c := fun e => hv _ _ (e ▸ E3)
  have fg : h / 3 ≠ g := fun e => hg (e ▸ hh)
  have fk : h / 3 ≠ k := fun e => hk (e ▸ hh)
  have hn : fs (sm_nx h / 3) := by rw [sm_nx_3]; exact hh
  have hb : fs (sm_bf h / 3) := by rw [sm_bf_3]; exact hh
  obtain ⟨l1, l2, l3⟩ := hl h hh trivial
  obtain ⟨p1, p2, p3⟩ := hl _ hn trivial
  obtain ⟨q1, q2, q3⟩ := hl _ hb trivial
  have f1 := sm_ag_face m0 hh
  have f2 := sm_ag_face m0 hn
  have f3 := sm_ag_face m0 hb
  rw [sm_nx_3] at f2
  rw [sm_bf_3] at f3
  rw [eb] at l2
  rw [ea] at l3
  rw [sm_nx_nx, ec] at p2
  rw [eb] at p3
  rw [sm_nx_bf, ea] at q2
  rw [ec] at q3
  refine ⟨sm_sf_ok hok E1 hv, ?_, ?_⟩
  · have R1 := sm_rm hr hh ea eb ec
    have R2 := sm_ad (f := h / 3) (a := a) (b := b) (c := v) R1 (fun t => t.2 rfl) n1 vb.symm va (fun z t => t.2 (Or.inl ⟨rfl, rfl, hok.2.1 _ _ _ _ t.1 E1⟩)) (fun z t => hv2 _ _ t.1) (fun z t => hv _ _ t.1)
    have R3 := sm_ad (f := g) (a := b) (b := c) (c := v) R2 (fun t => t.elim (fun t => hg t.1) (fun t => fg t.symm)) n2 vc.symm vb
      (fun z t => t.elim (fun t => t.2 (Or.inr (Or.inl ⟨rfl, rfl, hok.2.1 _ _ _ _ t.1 E2⟩))) (fun t => sm_cx t (fun q => n1 q.1.symm) (fun q => vc q.2.symm) (fun q => vb q.1.symm)))
      (fun z t => t.elim (fun t => hv2 _ _ t.1) (fun t => sm_cx t (fun q => vb q.2) (fun q => n2 q.1.symm) (fun q => vc q.1.symm)))
      (fun z t => t.elim (fun t => hv _ _ t.1) (fun t => sm_cx t (fun q => va q.1) (fun q => vb q.1) (fun q => n1 q.2.symm)))
    have R4 := sm_ad (f := k) (a := c) (b := a) (c := v) R3 (fun t => t.elim (fun t => t.elim (fun t => hk t.1) (fun t => fk t.symm)) (fun t => gk t.symm)) n3 va.symm vc
      (fun z t => t.elim (fun t => t.elim (fun t => t.2 (Or.inr (Or.inr ⟨rfl, rfl, hok.2.1 _ _ _ _ t.1 E3⟩))) (fun t => sm_cx t (fun q => n3 q.1) (fun q => n2 q.1.symm) (fun q => vc q.1.symm))) (fun t => sm_cx t (fun q => n2 q.1.symm) (fun q => va q.2.symm) (fun q => vc q.1.symm)))
      (fun z t => t.elim (fun t => t.elim (fun t => hv2 _ _ t.1) (fun t => sm_cx t (fun q => vb q.2) (fun q => n1 q.1) (fun q => va q.1.symm))) (fun t => sm_cx t (fun q => n1 q.1) (fun q => n3 q.1.symm) (fun q => va q.1.symm)))
      (fun z t => t.elim (fun t => t.elim (fun t => hv _ _ t.1) (fun t => sm_cx t (fun q => va q.1) (fun q => vb q.1) (fun q => n3 q.2))) (fun t => sm_cx t (fun q => vb q.1) (fun q => vc q.1) (fun q => n2 q.2.symm)))
    refine sm_R_congr (fun q => ?_) R4
    by_cases qf : q = h / 3
    · subst qf
      exact ⟨fun _ => Or.inl (Or.inl (Or.inr rfl)), fun _ => Or.inl (Or.inl hh)⟩
    · constructor
      · rintro ((t | t) | t)
        · exact Or.inl (Or.inl (Or.inl ⟨t, qf⟩))
        · exact Or.inl (Or.inr t)
        · exact Or.inr t
      · rintro (((t | t) | t) | t)
        · exact Or.inl (Or.inl t.1)
        · exact absurd t qf
        · exact Or.inl (Or.inr t)
        · exact Or.inr t
  · generalize hF : sm_wr (sm_wr (sm_wr fr (h / 3) a b v) g b c v) k c a v = F
    have old : ∀ x, fs (x / 3) → x / 3 ≠ h / 3 → F x = fr x ∧ F (sm_nx x) = fr (sm_nx x) := by
      intro x hx nx
      have xg : x / 3 ≠ g := fun e => hg (e ▸ hx)
      have xk : x / 3 ≠ k := fun e => hk (e ▸ hx)
      rw [← hF]
      exact ⟨by rw [sm_wr_n xk, sm_wr_n xg, sm_wr_n nx], by rw [sm_wr_n (by rw [sm_nx_3]; exact xk), sm_wr_n (by rw [sm_nx_3]; exact xg), sm_wr_n (by rw [sm_nx_3]; exact nx)]⟩
    have F0 : F (3 * (h / 3)) = a := by rw [← hF, sm_wr_n0 fk, sm_wr_n0 fg, sm_wr_0]
    have F1 : F (3 * (h / 3) + 1) = b := by rw [← hF, sm_wr_n1 fk, sm_wr_n1 fg, sm_wr_1]
    have F2 : F (3 * (h / 3) + 2) = v := by rw [← hF, sm_wr_n2 fk, sm_wr_n2 fg, sm_wr_2]
    have G0 : F (3 * g) = b := by rw [← hF, sm_wr_n0 gk, sm_wr_0]
    have G1 : F (3 * g + 1) = c := by rw [← hF, sm_wr_n1 gk, sm_wr_1]
    have G2 : F (3 * g + 2) = v := by rw [← hF, sm_wr_n2 gk, sm_wr_2]
    have K0 : F (3 * k) = c := by rw [← hF, sm_wr_0]
    have K1 : F (3 * k + 1) = a := by rw [← hF, sm_wr_1]
    have K2 : F (3 * k + 2) = v := by rw [← hF, sm_wr_2]
    have uF : ∀ i, i < 3 → (fs ((3 * (h / 3) + i) / 3) ∨ (3 * (h / 3) + i) / 3 = g) ∨ (3 * (h / 3) + i) / 3 = k := fun i hi => Or.inl (Or.inl (by rw [show (3 * (h / 3) + i) / 3 = h / 3 by omega]; exact hh))
    have uG : ∀ i, i < 3 → (fs ((3 * g + i) / 3) ∨ (3 * g + i) / 3 = g) ∨ (3 * g + i) / 3 = k := fun i hi => Or.inl (Or.inr (by omega))
    have uK : ∀ i, i < 3 → (fs ((3 * k + i) / 3) ∨ (3 * k + i) / 3 = g) ∨ (3 * k + i) / 3 = k := fun i hi => Or.inr (by omega)
    obtain ⟨o1, o2⟩ := old _ l1 f1
    obtain ⟨o3, o4⟩ := old _ p1 f2
    obtain ⟨o5, o6⟩ := old _ q1 f3
    have L0 : sm_L (fun q => (fs q ∨ q = g) ∨ q = k) F ag (fun x => x / 3 ≠ h / 3 ∧ x / 3 ≠ g ∧ x / 3 ≠ k ∧ x ≠ ag h ∧ x ≠ ag (sm_nx h) ∧ x ≠ ag (sm_bf h)) := by
      rintro x hx ⟨x1, x2, x3, x4, x5, x6⟩
      have ux : fs (x / 3) := hx.elim (fun t => t.elim id (fun t => absurd t x2)) (fun t => absurd t x3)
      obtain ⟨w1, w2, w3⟩ := hl x ux trivial
      obtain ⟨y1, y2⟩ := old _ w1 (sm_look m0 ux x4 x5 x6)
      obtain ⟨y3, y4⟩ := old _ ux x1
      exact ⟨Or.inl (Or.inl w1), by rw [y1, y4]; exact w2, by rw [y2, y3]; exact w3⟩
    have L1 := sm_L_lk (x := 3 * (h / 3)) (y := ag h) L0 (uF 0 (by omega)) (Or.inl (Or.inl l1)) (by rw [F0, o2, l3]) (by rw [sm_nx_0, F1, o1, l2])
    have L2 := sm_L_lk (x := 3 * g) (y := ag (sm_nx h)) L1 (uG 0 (by omega)) (Or.inl (Or.inl p1)) (by rw [G0, o4, p3]) (by rw [sm_nx_0, G1, o3, p2])
    have L3 := sm_L_lk (x := 3 * k) (y := ag (sm_bf h)) L2 (uK 0 (by omega)) (Or.inl (Or.inl q1)) (by rw [K0, o6, q3]) (by rw [sm_nx_0, K1, o5, q2])
    have L4 := sm_L_lk (x := 3 * (h / 3) + 1) (y := 3 * g + 2) L3 (uF 1 (by omega)) (uG 2 (by omega)) (by rw [F1, sm_nx_2, G0]) (by rw [sm_nx_1, F2, G2])
    have L5 := sm_L_lk (x := 3 * g + 1) (y := 3 * k + 2) L4 (uG 1 (by omega)) (uK 2 (by omega)) (by rw [G1, sm_nx_2, K0]) (by rw [sm_nx_1, G2, K2])
    have L6 := sm_L_lk (x := 3 * k + 1) (y := 3 * (h / 3) + 2) L5 (uK 1 (by omega)) (uF 2 (by omega)) (by rw [K1, sm_nx_2, F0]) (by rw [sm_nx_1, K2, F2])
    exact sm_L_all L6 (fun x _ => sm_cov3 x _ _ _ _ _ _)
end
section
/-! an edge turned -/
theorem sm_cov2 (x f e A1 A2 A3 A4 : Nat) : (((((x / 3 ≠ f ∧ x / 3 ≠ e ∧ x ≠ A1 ∧ x ≠ A2 ∧ x ≠ A3 ∧ x ≠ A4) ∨ x = 3 * f ∨ x = A1) ∨ x = 3 * f + 1 ∨ x = A2) ∨ x = 3 * f + 2 ∨ x = 3 * e + 2) ∨ x = 3 * e ∨ x = A3) ∨ x = 3 * e + 1 ∨ x = A4 := by
  have t := sm_three x
  grind
theorem sm_p_fl {fs : Nat → Prop} {fr ag : Nat → Nat} {E : sm_T} (m : sm_M fs fr ag E) {h r a b c d : Nat} (er : ag h = r) (hh : fs (h / 3)) (ea : fr h = a) (eb : fr (sm_nx h) = b) (ec : fr (sm_bf h) = c) (ed : fr (sm_bf r) = d)
    (hcd : ∀ z, ¬ E c d z) :
    sm_M fs (sm_wr (sm_wr fr (h / 3) c a d) (r / 3) d b c)
      (sm_lk (sm_lk (sm_lk (sm_lk (sm_lk ag (3 * (h / 3)) (ag (sm_bf h))) (3 * (h / 3) + 1) (ag (sm_nx r))) (3 * (h / 3) + 2) (3 * (r / 3) + 2)) (3 * (r / 3)) (ag (sm_bf r))) (3 * (r / 3) + 1) (ag (sm_nx h)))
      (sm_fl E a b c d) := by
  subst er
  have m0 := m
  obtain ⟨hok, hr, hl⟩ := m
  obtain ⟨l1, nf, l2, l3, hq, ⟨p1, p2, p3, p4, p5⟩, ⟨q1, q2, q3, q4, q5⟩, ⟨s1, s2, s3, s4, s5⟩, ⟨t1, t2, t3, t4, t5⟩⟩ := sm_around4 m0 hh ea eb ec ed
  obtain ⟨⟨e1, e2, e3⟩, ⟨e4, e5, e6⟩, n1, n2, n3, n4, n5, n6⟩ := id hq
  have hdc : ∀ z, ¬ E d c z := fun z t => by
    obtain ⟨w, hw⟩ := hok.2.2.2.1 _ _ _ t
    exact hcd w hw
  refine ⟨sm_fl_ok hok e1 e4 hcd, ?_, ?_⟩
  · have R1 := sm_rm hr hh ea eb ec
    have R2 := sm_rm (h := ag h) R1 ⟨l1, nf⟩ l2 l3 ed
    have fn := hok.2.1
    have R3 := sm_ad (f := h / 3) (a := c) (b := a) (c := d) R2 (fun t => t.1.2 rfl) n3 n4 n6.symm (fun z t => t.1.2 (Or.inr (Or.inr ⟨rfl, rfl, fn _ _ _ _ t.1.1 e3⟩))) (fun z t => t.2 (Or.inr (Or.inl ⟨rfl, rfl, fn _ _ _ _ t.1.1 e5⟩))) (fun z t => hdc _ t.1.1)
    have R4 := sm_ad (f := ag h / 3) (a := d) (b := b) (c := c) R3 (fun t => t.elim (fun t => t.2 rfl) (fun t => nf t)) n5.symm n2 n6
      (fun z t => t.elim (fun t => t.2 (Or.inr (Or.inr ⟨rfl, rfl, fn _ _ _ _ t.1.1 e6⟩))) (fun t => sm_cx t (fun q => n6 q.1.symm) (fun q => n4 q.1.symm) (fun q => n2 q.2)))
      (fun z t => t.elim (fun t => t.1.2 (Or.inr (Or.inl ⟨rfl, rfl, fn _ _ _ _ t.1.1 e2⟩))) (fun t => sm_cx t (fun q => n2 q.1) (fun q => n1 q.1.symm) (fun q => n5 q.1)))
      (fun z t => t.elim (fun t => hcd _ t.1.1) (fun t => sm_cx t (fun q => n4 q.2.symm) (fun q => n3 q.1) (fun q => n6 q.1)))
    refine sm_R_congr (fun q => ?_) R4
    by_cases qf : q = h / 3
    · subst qf
      exact ⟨fun _ => Or.inl (Or.inr rfl), fun _ => hh⟩
    · by_cases qe : q = ag h / 3
      · subst qe
        exact ⟨fun _ => Or.inr rfl, fun _ => l1⟩
      · constructor
        · intro t
          exact Or.inl (Or.inl ⟨⟨t, qf⟩, qe⟩)
        · rintro ((t | t) | t)
          · exact t.1.1
          · exact absurd t qf
          · exact absurd t qe
  · generalize hF : sm_wr (sm_wr fr (h / 3) c a d) (ag h / 3) d b c = F
    have old : ∀ x, x / 3 ≠ h / 3 → x / 3 ≠ ag h / 3 → F x = fr x ∧ F (sm_nx x) = fr (sm_nx x) := by
      intro x xf xe
      rw [← hF]
      exact ⟨by rw [sm_wr_n xe, sm_wr_n xf], by rw [sm_wr_n (by rw [sm_nx_3]; exact xe), sm_wr_n (by rw [sm_nx_3]; exact xf)]⟩
    have F0 : F (3 * (h / 3)) = c := by rw [← hF, sm_wr_n0 nf.symm, sm_wr_0]
    have F1 : F (3 * (h / 3) + 1) = a := by rw [← hF, sm_wr_n1 nf.symm, sm_wr_1]
    have F2 : F (3 * (h / 3) + 2) = d := by rw [← hF, sm_wr_n2 nf.symm, sm_wr_2]
    have G0 : F (3 * (ag h / 3)) = d := by rw [← hF, sm_wr_0]
    have G1 : F (3 * (ag h / 3) + 1) = b := by rw [← hF, sm_wr_1]
    have G2 : F (3 * (ag h / 3) + 2) = c := by rw [← hF, sm_wr_2]
    have uF : ∀ i, i < 3 → fs ((3 * (h / 3) + i) / 3) := fun i hi => by rw [show (3 * (h / 3) + i) / 3 = h / 3 by omega]; exact hh
    have uG : ∀ i, i < 3 → fs ((3 * (ag h / 3) + i) / 3) := fun i hi => by rw [show (3 * (ag h / 3) + i) / 3 = ag h / 3 by omega]; exact l1
    obtain ⟨o1, o2⟩ := old _ p2 p3
    obtain ⟨o3, o4⟩ := old _ q2 q3
    obtain ⟨o5, o6⟩ := old _ s2 s3
    obtain ⟨o7, o8⟩ := old _ t2 t3
    have L0 : sm_L fs F ag (fun x => x / 3 ≠ h / 3 ∧ x / 3 ≠ ag h / 3 ∧ x ≠ ag (sm_bf h) ∧ x ≠ ag (sm_nx (ag h)) ∧ x ≠ ag (sm_bf (ag h)) ∧ x ≠ ag (sm_nx h)) := by
      rintro x ux ⟨x1, x2, x3, x4, x5, x6⟩
      obtain ⟨w1, w2, w3⟩ := hl x ux trivial
      have z1 : ag x / 3 ≠ h / 3 := sm_look m0 ux (fun e => x2 (by rw [e])) x6 x3
      have z2 : ag x / 3 ≠ ag h / 3 := sm_look m0 ux (fun e => x1 (by rw [e, sm_ag_ag m0 hh])) x4 x5
      obtain ⟨y1, y2⟩ := old _ z1 z2
      obtain ⟨y3, y4⟩ := old _ x1 x2
      exact ⟨w1, by rw [y1, y4]; exact w2, by rw [y2, y3]; exact w3⟩
    have L1 := sm_L_lk (x := 3 * (h / 3)) (y := ag (sm_bf h)) L0 (uF 0 (by omega)) q1 (by rw [F0, o4, q5]) (by rw [sm_nx_0, F1, o3, q4])
    have L2 := sm_L_lk (x := 3 * (h / 3) + 1) (y := ag (sm_nx (ag h))) L1 (uF 1 (by omega)) s1 (by rw [F1, o6, s5]) (by rw [sm_nx_1, F2, o5, s4])
    have L3 := sm_L_lk (x := 3 * (h / 3) + 2) (y := 3 * (ag h / 3) + 2) L2 (uF 2 (by omega)) (uG 2 (by omega)) (by rw [F2, sm_nx_2, G0]) (by rw [sm_nx_2, F0, G2])
    have L4 := sm_L_lk (x := 3 * (ag h / 3)) (y := ag (sm_bf (ag h))) L3 (uG 0 (by omega)) t1 (by rw [G0, o8, t5]) (by rw [sm_nx_0, G1, o7, t4])
    have L5 := sm_L_lk (x := 3 * (ag h / 3) + 1) (y := ag (sm_nx h)) L4 (uG 1 (by omega)) p1 (by rw [G1, o2, p5]) (by rw [sm_nx_1, G2, o1, p4])
    exact sm_L_all L5 (fun x _ => sm_cov2 x _ _ _ _ _ _)
/-! an edge cut in two -/
def sm_se (E : sm_T) (a b c d v : Nat) : sm_T := fun x y z => (((((E x y z ∧ ¬ sm_cy a b c x y z) ∧ ¬ sm_cy b a d x y z) ∨ sm_cy a v c x y z) ∨ sm_cy v b c x y z) ∨ sm_cy b v d x y z) ∨ sm_cy v a d x y z
theorem sm_se_is {E : sm_T} {a b c d v : Nat} (h1 : sm_rot E) (hv : ∀ y z, ¬ E v y z) (hq : sm_quad E a b c d) : sm_se E a b c d v = sm_fl (sm_sf E a b c v) a b v d := by
  obtain ⟨hv2, hv3⟩ := sm_new h1 hv
  obtain ⟨⟨e1, e2, e3⟩, ⟨e4, e5, e6⟩, n1, n2, n3, n4, n5, n6⟩ := hq
  have va : v ≠ a := fun e => hv _ _ (e ▸ e1)
  have vb : v ≠ b := fun e => hv _ _ (e ▸ e2)
  have vc : v ≠ c := fun e => hv _ _ (e ▸ e3)
  have vd : v ≠ d := fun e => hv _ _ (e ▸ e6)
  funext x y z
  have i1 := hv y z
  have i2 := hv2 x z
  have i3 := hv3 x y
  apply propext
  unfold sm_se sm_fl sm_sf sm_cy
  clear h1 hv hv2 hv3 e1 e2 e3 e4 e5 e6
  constructor
  · intro t
    rcases t with (((((t | t) | t) | t) | t))
    · grind (splits := 60)
    · grind (splits := 60)
    · grind (splits := 60)
    · grind (splits := 60)
    · grind (splits := 60)
  · intro t
    rcases t with ((t | t) | t)
    · grind (splits := 60)
    · grind (splits := 60)
    · grind (splits := 60)
theorem sm_se_ok {E : sm_T} {a b c d v : Nat} (hok : sm_ok E) (hv : ∀ y z, ¬ E v y z) (hq : sm_quad E a b c d) : sm_ok (sm_se E a b c d v) := by
  rw [sm_se_is hok.1 hv hq]
  obtain ⟨hv2, hv3⟩ := sm_new hok.1 hv
  obtain ⟨⟨e1, e2, e3⟩, ⟨e4, e5, e6⟩, n1, n2, n3, n4, n5, n6⟩ := hq
  have vd : v ≠ d := fun e => hv _ _ (e ▸ e6)
  refine sm_fl_ok (sm_sf_ok hok e1 hv) ?_ ?_ ?_
  · unfold sm_sf sm_cy; simp
  · refine Or.inl (Or.inl (Or.inl ⟨e4, fun t => sm_cx t (fun q => n1 q.1.symm) (fun q => n3 q.2.symm) (fun q => n2 q.1)⟩))
  · rintro z (((t | t) | t) | t)
    · exact hv _ _ t.1
    · exact sm_cx t (fun q => n5 q.2.symm) (fun q => vd q.2.symm) (fun q => n4 q.2.symm)
    · exact sm_cx t (fun q => n6 q.2.symm) (fun q => vd q.2.symm) (fun q => n5 q.2.symm)
    · exact sm_cx t (fun q => n4 q.2.symm) (fun q => vd q.2.symm) (fun q => n6 q.2.symm)
theorem sm_se_v {E : sm_T} {a b c d v : Nat} (hok : sm_ok E) (hv : ∀ y z, ¬ E v y z) (hq : sm_quad E a b c d) (x : Nat) : (∃ y z, sm_se E a b c d v x y z) ↔ (∃ y z, E x y z) ∨ x = v := by
  rw [sm_se_is hok.1 hv hq]
  have hk := sm_sf_ok hok hq.1.1 hv
  obtain ⟨⟨e1, e2, e3⟩, ⟨e4, e5, e6⟩, n1, n2, n3, n4, n5, n6⟩ := hq
  rw [sm_fl_v (sm_quad_of (c := v) (d := d) hk.1 hk.2.2.1 hk.2.2.2.2.1 (by unfold sm_sf sm_cy; simp) (Or.inl (Or.inl (Or.inl ⟨e4, fun t => sm_cx t (fun q => n1 q.1.symm) (fun q => n3 q.2.symm) (fun q => n2 q.1)⟩)))), sm_sf_v hok.1 e1]
end
section
/-! an edge cut in two, by arrows -/
theorem sm_cov4 (x f e g k A1 A2 A3 A4 : Nat) : ((((((((x / 3 ≠ f ∧ x / 3 ≠ e ∧ x / 3 ≠ g ∧ x / 3 ≠ k ∧ x ≠ A1 ∧ x ≠ A2 ∧ x ≠ A3 ∧ x ≠ A4) ∨ x = 3 * f ∨ x = 3 * k) ∨ x = 3 * g ∨ x = 3 * e) ∨ x = 3 * f + 1 ∨ x = 3 * g + 2) ∨ x = 3 * e + 1 ∨ x = 3 * k + 2) ∨ x = 3 * f + 2 ∨ x = A1) ∨ x = 3 * g + 1 ∨ x = A2) ∨ x = 3 * e + 2 ∨ x = A3) ∨ x = 3 * k + 1 ∨ x = A4 := by
  have t := sm_three x
  grind
theorem sm_p_se {fs : Nat → Prop} {fr ag : Nat → Nat} {E : sm_T} (m : sm_M fs fr ag E) {h r a b c d v g k : Nat} (er : ag h = r) (hh : fs (h / 3)) (ea : fr h = a) (eb : fr (sm_nx h) = b) (ec : fr (sm_bf h) = c) (ed : fr (sm_bf r) = d)
    (hv : ∀ y z, ¬ E v y z) (hg : ¬ fs g) (hk : ¬ fs k) (gk : g ≠ k) :
    sm_M (fun q => (fs q ∨ q = g) ∨ q = k) (sm_wr (sm_wr (sm_wr (sm_wr fr (h / 3) a v c) g v b c) (r / 3) b v d) k v a d)
      (sm_lk (sm_lk (sm_lk (sm_lk (sm_lk (sm_lk (sm_lk (sm_lk ag (3 * (h / 3)) (3 * k)) (3 * g) (3 * (r / 3))) (3 * (h / 3) + 1) (3 * g + 2)) (3 * (r / 3) + 1) (3 * k + 2)) (3 * (h / 3) + 2) (ag (sm_bf h))) (3 * g + 1) (ag (sm_nx h))) (3 * (r / 3) + 2) (ag (sm_bf r))) (3 * k + 1) (ag (sm_nx r)))
      (sm_se E a b c d v) := by
  subst er
  have m0 := m
  obtain ⟨hok, hr, hl⟩ := m
  obtain ⟨l1, nf, l2, l3, hq, ⟨p1, p2, p3, p4, p5⟩, ⟨q1, q2, q3, q4, q5⟩, ⟨s1, s2, s3, s4, s5⟩, ⟨t1, t2, t3, t4, t5⟩⟩ := sm_around4 m0 hh ea eb ec ed
  obtain ⟨⟨e1, e2, e3⟩, ⟨e4, e5, e6⟩, n1, n2, n3, n4, n5, n6⟩ := id hq
  obtain ⟨hv2, hv3⟩ := sm_new hok.1 hv
  have va : v ≠ a := fun e => hv _ _ (e ▸ e1)
  have vb : v ≠ b := fun e => hv _ _ (e ▸ e2)
  have vc : v ≠ c := fun e => hv _ _ (e ▸ e3)
  have vd : v ≠ d := fun e => hv _ _ (e ▸ e6)
  have fg : h / 3 ≠ g := fun e => hg (e ▸ hh)
  have fk : h / 3 ≠ k := fun e => hk (e ▸ hh)
  have eg : ag h / 3 ≠ g := fun e => hg (e ▸ l1)
  have ek : ag h / 3 ≠ k := fun e => hk (e ▸ l1)
  refine ⟨sm_se_ok hok hv hq, ?_, ?_⟩
  · have R1 := sm_rm hr hh ea eb ec
    have R2 := sm_rm (h := ag h) R1 ⟨l1, nf⟩ l2 l3 ed
    have fn := hok.2.1
    have R3 := sm_ad (f := h / 3) (a := a) (b := v) (c := c) R2 (fun t => t.1.2 rfl) va.symm vc n3
      (fun z t => hv2 _ _ t.1.1) (fun z t => hv _ _ t.1.1) (fun z t => t.1.2 (Or.inr (Or.inr ⟨rfl, rfl, fn _ _ _ _ t.1.1 e3⟩)))
    have R4 := sm_ad (f := g) (a := v) (b := b) (c := c) R3 (fun t => t.elim (fun t => hg t.1.1) (fun t => fg t.symm)) vb n2 vc.symm
      (fun z t => t.elim (fun t => hv _ _ t.1.1) (fun t => sm_cx t (fun q => va q.1) (fun q => n2 q.2) (fun q => vc q.1)))
      (fun z t => t.elim (fun t => t.1.2 (Or.inr (Or.inl ⟨rfl, rfl, fn _ _ _ _ t.1.1 e2⟩))) (fun t => sm_cx t (fun q => n1 q.1.symm) (fun q => vb q.1.symm) (fun q => n2 q.1)))
      (fun z t => t.elim (fun t => hv2 _ _ t.1.1) (fun t => sm_cx t (fun q => n3 q.1) (fun q => vc q.1.symm) (fun q => va q.2)))
    have R5 := sm_ad (f := ag h / 3) (a := b) (b := v) (c := d) R4 (fun t => t.elim (fun t => t.elim (fun t => t.2 rfl) (fun t => nf t)) (fun t => eg t)) vb.symm vd n5.symm
      (fun z t => t.elim (fun t => t.elim (fun t => hv2 _ _ t.1.1) (fun t => sm_cx t (fun q => n1 q.1.symm) (fun q => vb q.1.symm) (fun q => n2 q.1))) (fun t => sm_cx t (fun q => vb q.1.symm) (fun q => vc q.2) (fun q => n2 q.1)))
      (fun z t => t.elim (fun t => t.elim (fun t => hv _ _ t.1.1) (fun t => sm_cx t (fun q => va q.1) (fun q => n6 q.2.symm) (fun q => vc q.1))) (fun t => sm_cx t (fun q => n5 q.2.symm) (fun q => vb q.1) (fun q => vc q.1)))
      (fun z t => t.elim (fun t => t.elim (fun t => t.2 (Or.inr (Or.inr ⟨rfl, rfl, fn _ _ _ _ t.1.1 e6⟩))) (fun t => sm_cx t (fun q => n4 q.1.symm) (fun q => vd q.1.symm) (fun q => n6 q.1.symm))) (fun t => sm_cx t (fun q => vd q.1.symm) (fun q => n5 q.1.symm) (fun q => n6 q.1.symm)))
    have R6 := sm_ad (f := k) (a := v) (b := a) (c := d) R5 (fun t => t.elim (fun t => t.elim (fun t => t.elim (fun t => hk t.1.1) (fun t => fk t.symm)) (fun t => gk t.symm)) (fun t => ek t.symm)) va n4 vd.symm
      (fun z t => t.elim (fun t => t.elim (fun t => t.elim (fun t => hv _ _ t.1.1) (fun t => sm_cx t (fun q => va q.1) (fun q => n3 q.2.symm) (fun q => vc q.1))) (fun t => sm_cx t (fun q => n1 q.2) (fun q => vb q.1) (fun q => vc q.1))) (fun t => sm_cx t (fun q => vb q.1) (fun q => n4 q.2) (fun q => vd q.1)))
      (fun z t => t.elim (fun t => t.elim (fun t => t.elim (fun t => t.2 (Or.inr (Or.inl ⟨rfl, rfl, fn _ _ _ _ t.1.1 e5⟩))) (fun t => sm_cx t (fun q => vd q.2.symm) (fun q => va q.1.symm) (fun q => n3 q.1.symm))) (fun t => sm_cx t (fun q => va q.1.symm) (fun q => n1 q.1) (fun q => n3 q.1.symm))) (fun t => sm_cx t (fun q => n1 q.1) (fun q => va q.1.symm) (fun q => n4 q.1)))
      (fun z t => t.elim (fun t => t.elim (fun t => t.elim (fun t => hv2 _ _ t.1.1) (fun t => sm_cx t (fun q => n4 q.1.symm) (fun q => vd q.1.symm) (fun q => n6 q.1.symm))) (fun t => sm_cx t (fun q => vd q.1.symm) (fun q => n5 q.1.symm) (fun q => n6 q.1.symm))) (fun t => sm_cx t (fun q => n5 q.1.symm) (fun q => vd q.1.symm) (fun q => vb q.2)))
    refine sm_R_congr (fun q => ?_) R6
    by_cases qf : q = h / 3
    · subst qf
      exact ⟨fun _ => Or.inl (Or.inl (Or.inl (Or.inr rfl))), fun _ => Or.inl (Or.inl hh)⟩
    · by_cases qe : q = ag h / 3
      · subst qe
        exact ⟨fun _ => Or.inl (Or.inr rfl), fun _ => Or.inl (Or.inl l1)⟩
      · constructor
        · rintro ((t | t) | t)
          · exact Or.inl (Or.inl (Or.inl (Or.inl ⟨⟨t, qf⟩, qe⟩)))
          · exact Or.inl (Or.inl (Or.inr t))
          · exact Or.inr t
        · rintro ((((t | t) | t) | t) | t)
          · exact Or.inl (Or.inl t.1.1)
          · exact absurd t qf
          · exact Or.inl (Or.inr t)
          · exact absurd t qe
          · exact Or.inr t
  · generalize hF : sm_wr (sm_wr (sm_wr (sm_wr fr (h / 3) a v c) g v b c) (ag h / 3) b v d) k v a d = F
    have old : ∀ x, fs (x / 3) → x / 3 ≠ h / 3 → x / 3 ≠ ag h / 3 → F x = fr x ∧ F (sm_nx x) = fr (sm_nx x) := by
      intro x ux xf xe
      have xg : x / 3 ≠ g := fun e => hg (e ▸ ux)
      have xk : x / 3 ≠ k := fun e => hk (e ▸ ux)
      rw [← hF]
      exact ⟨by rw [sm_wr_n xk, sm_wr_n xe, sm_wr_n xg, sm_wr_n xf], by rw [sm_wr_n (by rw [sm_nx_3]; exact xk), sm_wr_n (by rw [sm_nx_3]; exact xe), sm_wr_n (by rw [sm_nx_3]; exact xg), sm_wr_n (by rw [sm_nx_3]; exact xf)]⟩
    have F0 : F (3 * (h / 3)) = a := by rw [← hF, sm_wr_n0 fk, sm_wr_n0 nf.symm, sm_wr_n0 fg, sm_wr_0]
    have F1 : F (3 * (h / 3) + 1) = v := by rw [← hF, sm_wr_n1 fk, sm_wr_n1 nf.symm, sm_wr_n1 fg, sm_wr_1]
    have F2 : F (3 * (h / 3) + 2) = c := by rw [← hF, sm_wr_n2 fk, sm_wr_n2 nf.symm, sm_wr_n2 fg, sm_wr_2]
    have G0 : F (3 * g) = v := by rw [← hF, sm_wr_n0 gk, sm_wr_n0 eg.symm, sm_wr_0]
    have G1 : F (3 * g + 1) = b := by rw [← hF, sm_wr_n1 gk, sm_wr_n1 eg.symm, sm_wr_1]
    have G2 : F (3 * g + 2) = c := by rw [← hF, sm_wr_n2 gk, sm_wr_n2 eg.symm, sm_wr_2]
    have H0 : F (3 * (ag h / 3)) = b := by rw [← hF, sm_wr_n0 ek, sm_wr_0]
    have H1 : F (3 * (ag h / 3) + 1) = v := by rw [← hF, sm_wr_n1 ek, sm_wr_1]
    have H2 : F (3 * (ag h / 3) + 2) = d := by rw [← hF, sm_wr_n2 ek, sm_wr_2]
    have K0 : F (3 * k) = v := by rw [← hF, sm_wr_0]
    have K1 : F (3 * k + 1) = a := by rw [← hF, sm_wr_1]
    have K2 : F (3 * k + 2) = d := by rw [← hF, sm_wr_2]
    have uF : ∀ i, i < 3 → (fs ((3 * (h / 3) + i) / 3) ∨ (3 * (h / 3) + i) / 3 = g) ∨ (3 * (h / 3) + i) / 3 = k := fun i hi => Or.inl (Or.inl (by rw [show (3 * (h / 3) + i) / 3 = h / 3 by omega]; exact hh))
    have uH : ∀ i, i < 3 → (fs ((3 * (ag h / 3) + i) / 3) ∨ (3 * (ag h / 3) + i) / 3 = g) ∨ (3 * (ag h / 3) + i) / 3 = k := fun i hi => Or.inl (Or.inl (by rw [show (3 * (ag h / 3) + i) / 3 = ag h / 3 by omega]; exact l1))
    have uG : ∀ i, i < 3 → (fs ((3 * g + i) / 3) ∨ (3 * g + i) / 3 = g) ∨ (3 * g + i) / 3 = k := fun i hi => Or.inl (Or.inr (by omega))
    have uK : ∀ i, i < 3 → (fs ((3 * k + i) / 3) ∨ (3 * k + i) / 3 = g) ∨ (3 * k + i) / 3 = k := fun i hi => Or.inr (by omega)
    obtain ⟨o1, o2⟩ := old _ p1 p2 p3
    obtain ⟨o3, o4⟩ := old _ q1 q2 q3
    obtain ⟨o5, o6⟩ := old _ s1 s2 s3
    obtain ⟨o7, o8⟩ := old _ t1 t2 t3
    have L0 : sm_L (fun q => (fs q ∨ q = g) ∨ q = k) F ag (fun x => x / 3 ≠ h / 3 ∧ x / 3 ≠ ag h / 3 ∧ x / 3 ≠ g ∧ x / 3 ≠ k ∧ x ≠ ag (sm_bf h) ∧ x ≠ ag (sm_nx h) ∧ x ≠ ag (sm_bf (ag h)) ∧ x ≠ ag (sm_nx (ag h))) := by
      rintro x hx ⟨x1, x2, x3, x4, x5, x6, x7, x8⟩
      have ux : fs (x / 3) := hx.elim (fun t => t.elim id (fun t => absurd t x3)) (fun t => absurd t x4)
      obtain ⟨w1, w2, w3⟩ := hl x ux trivial
      have z1 : ag x / 3 ≠ h / 3 := sm_look m0 ux (fun e => x2 (by rw [e])) x6 x5
      have z2 : ag x / 3 ≠ ag h / 3 := sm_look m0 ux (fun e => x1 (by rw [e, sm_ag_ag m0 hh])) x8 x7
      obtain ⟨y1, y2⟩ := old _ w1 z1 z2
      obtain ⟨y3, y4⟩ := old _ ux x1 x2
      exact ⟨Or.inl (Or.inl w1), by rw [y1, y4]; exact w2, by rw [y2, y3]; exact w3⟩
    have L1 := sm_L_lk (x := 3 * (h / 3)) (y := 3 * k) L0 (uF 0 (by omega)) (uK 0 (by omega)) (by rw [F0, sm_nx_0, K1]) (by rw [sm_nx_0, F1, K0])
    have L2 := sm_L_lk (x := 3 * g) (y := 3 * (ag h / 3)) L1 (uG 0 (by omega)) (uH 0 (by omega)) (by rw [G0, sm_nx_0, H1]) (by rw [sm_nx_0, G1, H0])
    have L3 := sm_L_lk (x := 3 * (h / 3) + 1) (y := 3 * g + 2) L2 (uF 1 (by omega)) (uG 2 (by omega)) (by rw [F1, sm_nx_2, G0]) (by rw [sm_nx_1, F2, G2])
    have L4 := sm_L_lk (x := 3 * (ag h / 3) + 1) (y := 3 * k + 2) L3 (uH 1 (by omega)) (uK 2 (by omega)) (by rw [H1, sm_nx_2, K0]) (by rw [sm_nx_1, H2, K2])
    have L5 := sm_L_lk (x := 3 * (h / 3) + 2) (y := ag (sm_bf h)) L4 (uF 2 (by omega)) (Or.inl (Or.inl q1)) (by rw [F2, o4, q5]) (by rw [sm_nx_2, F0, o3, q4])
    have L6 := sm_L_lk (x := 3 * g + 1) (y := ag (sm_nx h)) L5 (uG 1 (by omega)) (Or.inl (Or.inl p1)) (by rw [G1, o2, p5]) (by rw [sm_nx_1, G2, o1, p4])
    have L7 := sm_L_lk (x := 3 * (ag h / 3) + 2) (y := ag (sm_bf (ag h))) L6 (uH 2 (by omega)) (Or.inl (Or.inl t1)) (by rw [H2, o8, t5]) (by rw [sm_nx_2, H0, o7, t4])
    have L8 := sm_L_lk (x := 3 * k + 1) (y := ag (sm_nx (ag h))) L7 (uK 1 (by omega)) (Or.inl (Or.inl s1)) (by rw [K1, o6, s5]) (by rw [sm_nx_1, K2, o5, s4])
    exact sm_L_all L8 (fun x _ => sm_cov4 x _ _ _ _ _ _ _ _)
/-! an edge drawn together, by arrows -/
theorem sm_p_co {fs : Nat → Prop} {fr ag : Nat → Nat} {E : sm_T} (m : sm_M fs fr ag E) {h r a b c d : Nat} (er : ag h = r) (hh : fs (h / 3)) (ea : fr h = a) (eb : fr (sm_nx h) = b) (ec : fr (sm_bf h) = c) (ed : fr (sm_bf r) = d)
    (hc : sm_cc E a b c d) :
    sm_M (fun q => (fs q ∧ q ≠ h / 3) ∧ q ≠ r / 3) (fun x => sm_s a b (fr x))
      (sm_lk (sm_lk ag (ag (sm_nx h)) (ag (sm_bf h))) (ag (sm_nx r)) (ag (sm_bf r)))
      (sm_co E a b c d) := by
  subst er
  have m0 := m
  obtain ⟨hok, hr, hl⟩ := m
  obtain ⟨l1, nf, l2, l3, hq, ⟨p1, p2, p3, p4, p5⟩, ⟨q1, q2, q3, q4, q5⟩, ⟨s1, s2, s3, s4, s5⟩, ⟨t1, t2, t3, t4, t5⟩⟩ := sm_around4 m0 hh ea eb ec ed
  obtain ⟨⟨e1, e2, e3⟩, ⟨e4, e5, e6⟩, n1, n2, n3, n4, n5, n6⟩ := id hq
  refine ⟨sm_co_ok hok hc, ?_, ?_⟩
  · have R1 := sm_rm hr hh ea eb ec
    have R2 := sm_rm (h := ag h) R1 ⟨l1, nf⟩ l2 l3 ed
    exact sm_rn (sm_s a b) R2 (fun x y z x' y' z' k k' ex ey => sm_D_inj hok.2.1 hok.2.2.1 hok.2.2.2.1 hc k k' ex ey)
  · have sa : sm_s a b a = a := sm_s_n n1
    have sb : sm_s a b b = a := sm_s_b a b
    have L0 : sm_L (fun q => (fs q ∧ q ≠ h / 3) ∧ q ≠ ag h / 3) (fun x => sm_s a b (fr x)) ag (fun x => x ≠ ag (sm_bf h) ∧ x ≠ ag (sm_nx h) ∧ x ≠ ag (sm_bf (ag h)) ∧ x ≠ ag (sm_nx (ag h))) := by
      rintro x ⟨⟨ux, x1⟩, x2⟩ ⟨x5, x6, x7, x8⟩
      obtain ⟨w1, w2, w3⟩ := hl x ux trivial
      have z1 : ag x / 3 ≠ h / 3 := sm_look m0 ux (fun e => x2 (by rw [e])) x6 x5
      have z2 : ag x / 3 ≠ ag h / 3 := sm_look m0 ux (fun e => x1 (by rw [e, sm_ag_ag m0 hh])) x8 x7
      exact ⟨⟨⟨w1, z1⟩, z2⟩, congrArg (sm_s a b) w2, congrArg (sm_s a b) w3⟩
    have L1 := sm_L_lk (x := ag (sm_nx h)) (y := ag (sm_bf h)) L0 ⟨⟨p1, p2⟩, p3⟩ ⟨⟨q1, q2⟩, q3⟩ (by rw [p4, q5]) (by rw [p5, q4, sa, sb])
    have L2 := sm_L_lk (x := ag (sm_nx (ag h))) (y := ag (sm_bf (ag h))) L1 ⟨⟨s1, s2⟩, s3⟩ ⟨⟨t1, t2⟩, t3⟩ (by rw [s4, t5]) (by rw [s5, t4, sa, sb])
    refine sm_L_all L2 (fun x _ => ?_)
    generalize ag (sm_bf h) = A1
    generalize ag (sm_nx h) = A2
    generalize ag (sm_bf (ag h)) = A3
    generalize ag (sm_nx (ag h)) = A4
    clear L0 L1 L2
    grind
end
section
/-! going around a vertex -/
def sm_ro (ag : Nat → Nat) (h : Nat) : Nat := ag (sm_bf h)
def sm_it (ag : Nat → Nat) : Nat → Nat → Nat
  | 0, h => h
  | n + 1, h => sm_ro ag (sm_it ag n h)
def sm_ri (ag : Nat → Nat) (h : Nat) : Nat := sm_nx (ag h)
def sm_ib (ag : Nat → Nat) : Nat → Nat → Nat
  | 0, h => h
  | n + 1, h => sm_ri ag (sm_ib ag n h)
theorem sm_ro_ok {fs : Nat → Prop} {fr ag : Nat → Nat} {E : sm_T} (m : sm_M fs fr ag E) {h : Nat} (hh : fs (h / 3)) : fs (sm_ro ag h / 3) ∧ fr (sm_ro ag h) = fr h ∧ fr (sm_nx (sm_ro ag h)) = fr (sm_bf h) := by
  have t := m.2.2 (sm_bf h) (by rw [sm_bf_3]; exact hh) trivial
  rw [sm_nx_bf] at t
  exact t
theorem sm_it_ok {fs : Nat → Prop} {fr ag : Nat → Nat} {E : sm_T} (m : sm_M fs fr ag E) {h : Nat} (hh : fs (h / 3)) (n : Nat) : fs (sm_it ag n h / 3) ∧ fr (sm_it ag n h) = fr h := by
  induction n with
  | zero => exact ⟨hh, rfl⟩
  | succ n ih =>
    obtain ⟨t1, t2, _⟩ := sm_ro_ok m ih.1
    exact ⟨t1, t2.trans ih.2⟩
theorem sm_it_E {fs : Nat → Prop} {fr ag : Nat → Nat} {E : sm_T} (m : sm_M fs fr ag E) {h : Nat} (hh : fs (h / 3)) (n : Nat) : E (fr h) (fr (sm_nx (sm_it ag n h))) (fr (sm_nx (sm_it ag (n + 1) h))) := by
  obtain ⟨i1, i2⟩ := sm_it_ok m hh n
  obtain ⟨t1, t2, t3⟩ := sm_ro_ok m i1
  have := m.2.1.1 _ i1
  rw [i2] at this
  show E (fr h) (fr (sm_nx (sm_it ag n h))) (fr (sm_nx (sm_ro ag (sm_it ag n h))))
  rw [t3]
  exact this
theorem sm_it_add (ag : Nat → Nat) (h i t : Nat) : sm_it ag (i + t) h = sm_it ag t (sm_it ag i h) := by
  induction t with
  | zero => rfl
  | succ t ih =>
    show sm_ro ag (sm_it ag (i + t) h) = sm_ro ag (sm_it ag t (sm_it ag i h))
    rw [ih]
theorem sm_reach {fs : Nat → Prop} {fr ag : Nat → Nat} {E : sm_T} (m : sm_M fs fr ag E) (hb : ∀ x y z, E x y z → x < 10) {h g : Nat} (hh : fs (h / 3)) (hg : fs (g / 3)) (e : fr h = fr g) : ∃ k, k < 10 ∧ sm_it ag k h = g := by
  have toI : ∀ i j, fr (sm_nx (sm_it ag i h)) = fr (sm_nx j) → fs (j / 3) → fr j = fr h → sm_it ag i h = j := by
    intro i j q1 q2 q3
    obtain ⟨i1, i2⟩ := sm_it_ok m hh i
    exact m.2.1.2.2 _ _ i1 q2 (i2.trans q3.symm) q1
  have ex : ∃ k, sm_it ag k h = g := by
    obtain ⟨k, hk⟩ := m.1.2.2.2.2.2.1 (fun y => ∃ k, fr (sm_nx (sm_it ag k h)) = y) (fr h) (by
      rintro y z t ⟨k, rfl⟩
      exact ⟨k + 1, m.1.2.1 _ _ _ _ (sm_it_E m hh k) t⟩) _ _ _ _ (m.2.1.1 h hh) (e ▸ m.2.1.1 g hg) ⟨0, rfl⟩
    exact ⟨k, toI k g hk hg e.symm⟩
  obtain ⟨k, hk, least⟩ := pk_least (fun k => sm_it ag k h = g) ex
  rcases Nat.lt_or_ge k 10 with q | q
  · exact ⟨k, q, hk⟩
  · exfalso
    obtain ⟨i, j, ij, hj, eq⟩ := sm_pig (fun i => fr (sm_nx (sm_it ag i h))) 11 10 (by omega) (fun i _ => hb _ _ _ (m.1.1 _ _ _ (sm_it_E m hh i)))
    have same := toI i (sm_it ag j h) eq (sm_it_ok m hh j).1 (sm_it_ok m hh j).2
    refine least (i + (k - j)) (by omega) ?_
    show sm_it ag (i + (k - j)) h = g
    rw [sm_it_add, same, ← sm_it_add, show j + (k - j) = k by omega]
    exact hk
theorem sm_ri_ok {fs : Nat → Prop} {fr ag : Nat → Nat} {E : sm_T} (m : sm_M fs fr ag E) {h : Nat} (hh : fs (h / 3)) : fs (sm_ri ag h / 3) ∧ fr (sm_ri ag h) = fr h ∧ sm_ro ag (sm_ri ag h) = h := by
  obtain ⟨t1, t2, t3⟩ := m.2.2 h hh trivial
  unfold sm_ri sm_ro
  refine ⟨by rw [sm_nx_3]; exact t1, t3, ?_⟩
  rw [sm_bf_nx]
  exact sm_ag_ag m hh
theorem sm_ri_ro {fs : Nat → Prop} {fr ag : Nat → Nat} {E : sm_T} (m : sm_M fs fr ag E) {h : Nat} (hh : fs (h / 3)) : sm_ri ag (sm_ro ag h) = h := by
  unfold sm_ri sm_ro
  rw [sm_ag_ag m (by rw [sm_bf_3]; exact hh), sm_nx_bf]
theorem sm_ib_ok {fs : Nat → Prop} {fr ag : Nat → Nat} {E : sm_T} (m : sm_M fs fr ag E) {h : Nat} (hh : fs (h / 3)) (n : Nat) : fs (sm_ib ag n h / 3) ∧ fr (sm_ib ag n h) = fr h := by
  induction n with
  | zero => exact ⟨hh, rfl⟩
  | succ n ih =>
    obtain ⟨t1, t2, _⟩ := sm_ri_ok m ih.1
    exact ⟨t1, t2.trans ih.2⟩
theorem sm_ib_s (ag : Nat → Nat) (n h : Nat) : sm_ib ag (n + 1) h = sm_ib ag n (sm_ri ag h) := by
  induction n with
  | zero => rfl
  | succ n ih =>
    show sm_ri ag (sm_ib ag (n + 1) h) = sm_ri ag (sm_ib ag n (sm_ri ag h))
    rw [ih]
theorem sm_it_s (ag : Nat → Nat) (n h : Nat) : sm_it ag (n + 1) h = sm_it ag n (sm_ro ag h) := by
  induction n with
  | zero => rfl
  | succ n ih =>
    show sm_ro ag (sm_it ag (n + 1) h) = sm_ro ag (sm_it ag n (sm_ro ag h))
    rw [ih]
theorem sm_ib_it {fs : Nat → Prop} {fr ag : Nat → Nat} {E : sm_T} (m : sm_M fs fr ag E) {h : Nat} (hh : fs (h / 3)) (n : Nat) : sm_ib ag n (sm_it ag n h) = h := by
  induction n with
  | zero => rfl
  | succ n ih =>
    rw [sm_ib_s]
    show sm_ib ag n (sm_ri ag (sm_ro ag (sm_it ag n h))) = h
    rw [sm_ri_ro m (sm_it_ok m hh n).1, ih]
theorem sm_it_ib {fs : Nat → Prop} {fr ag : Nat → Nat} {E : sm_T} (m : sm_M fs fr ag E) {h : Nat} (hh : fs (h / 3)) (n : Nat) : sm_it ag n (sm_ib ag n h) = h := by
  induction n with
  | zero => rfl
  | succ n ih =>
    rw [sm_it_s]
    show sm_it ag n (sm_ro ag (sm_ri ag (sm_ib ag n h))) = h
    rw [(sm_ri_ok m (sm_ib_ok m hh n).1).2.2, ih]
/-! how many -/
theorem sm_cnt_dis {p q r : Nat → Prop} {n : Nat} (h1 : ∀ i, p i → r i) (h2 : ∀ i, q i → r i) (h3 : ∀ i, p i → ¬ q i) : sm_cnt p n + sm_cnt q n ≤ sm_cnt r n := by
  induction n with
  | zero => exact Nat.le_refl 0
  | succ n ih =>
    by_cases hp : p n
    · rw [sm_cnt_t hp, sm_cnt_f (h3 n hp), sm_cnt_t (h1 n hp)]; omega
    · by_cases hq : q n
      · rw [sm_cnt_f hp, sm_cnt_t hq, sm_cnt_t (h2 n hq)]; omega
      · rw [sm_cnt_f hp, sm_cnt_f hq]
        by_cases hr : r n
        · rw [sm_cnt_t hr]; omega
        · rw [sm_cnt_f hr]; exact ih
theorem sm_half {fs : Nat → Prop} {fr ag : Nat → Nat} {E : sm_T} (m : sm_M fs fr ag E) (hb : ∀ q, fs q → q < 16) : 2 * sm_cnt (fun h => fs (h / 3) ∧ h < ag h) 48 ≤ 3 * sm_cnt fs 16 := by
  rw [← sm_cnt_three]
  have b : ∀ h, fs (h / 3) → h < 48 := fun h hh => by have := hb _ hh; omega
  have e1 := sm_cnt_inj (p := fun h => fs (h / 3) ∧ h < ag h) (m := 48) ag 48 (fun h => fs (h / 3) ∧ ag h < h) (fun i _ hp => by
    have t := (m.2.2 i hp.1 trivial).1
    refine ⟨b _ t, t, ?_⟩
    rw [sm_ag_ag m hp.1]
    exact hp.2) (fun i j _ _ hp hq e => by rw [← sm_ag_ag m hp.1, ← sm_ag_ag m hq.1, e])
  have e2 := sm_cnt_dis (p := fun h => fs (h / 3) ∧ h < ag h) (q := fun h => fs (h / 3) ∧ ag h < h) (r := fun h => fs (h / 3)) (n := 48) (fun i t => t.1) (fun i t => t.1) (fun i t s => by have := t.2; have := s.2; omega)
  show 2 * sm_cnt (fun h => fs (h / 3) ∧ h < ag h) 48 ≤ sm_cnt (fun h => fs (h / 3)) 48
  omega
theorem sm_edges {fs : Nat → Prop} {fr ag : Nat → Nat} {E : sm_T} (m : sm_M fs fr ag E) (hb : ∀ q, fs q → q < 16) (hv : ∀ x y z, E x y z → x < 10) : sm_sum (fun v => sm_cnt (fun y => ∃ z, E v y z) 10) 10 = 3 * sm_cnt fs 16 := by
  rw [← sm_cnt_three, ← sm_cnt_grid (fun v y => ∃ z, E v y z) 10]
  have b : ∀ h, fs (h / 3) → h < 48 := fun h hh => by have := hb _ hh; omega
  apply Nat.le_antisymm
  · have ch : ∀ p : Nat, ∃ h : Nat, (∃ z, E (p / 10) (p % 10) z) → fs (h / 3) ∧ fr h = p / 10 ∧ fr (sm_nx h) = p % 10 := by
      intro p
      by_cases t : ∃ z, E (p / 10) (p % 10) z
      · obtain ⟨z, hz⟩ := t
        obtain ⟨h, h1, h2, h3, _⟩ := m.2.1.2.1 _ _ _ hz
        exact ⟨h, fun _ => ⟨h1, h2, h3⟩⟩
      · exact ⟨0, fun s => absurd s t⟩
    have hc : ∃ f : Nat → Nat, ∀ p, (∃ z, E (p / 10) (p % 10) z) → fs (f p / 3) ∧ fr (f p) = p / 10 ∧ fr (sm_nx (f p)) = p % 10 := ⟨fun p => Classical.choose (ch p), fun p => Classical.choose_spec (ch p)⟩
    obtain ⟨f, hf⟩ := hc
    refine sm_cnt_inj (p := fun p => ∃ z, E (p / 10) (p % 10) z) f _ (fun h => fs (h / 3)) (fun i _ hp => ⟨b _ (hf i hp).1, (hf i hp).1⟩) (fun i j _ _ hp hq e => ?_)
    have t1 := hf i hp
    have t2 := hf j hq
    rw [e] at t1
    have u1 := t1.2.1.symm.trans t2.2.1
    have u2 := t1.2.2.symm.trans t2.2.2
    omega
  · refine sm_cnt_inj (p := fun h => fs (h / 3)) (fun h => 10 * fr h + fr (sm_nx h)) _ (fun p => ∃ z, E (p / 10) (p % 10) z) (fun i _ hp => ?_) (fun i j _ _ hp hq e => ?_)
    · have t := m.2.1.1 i hp
      have b1 := hv _ _ _ t
      have b2 := hv _ _ _ (m.1.1 _ _ _ t)
      refine ⟨by omega, ?_⟩
      rw [show (10 * fr i + fr (sm_nx i)) / 10 = fr i by omega, show (10 * fr i + fr (sm_nx i)) % 10 = fr (sm_nx i) by omega]
      exact ⟨_, t⟩
    · have t := m.2.1.1 i hp
      have b2 := hv _ _ _ (m.1.1 _ _ _ t)
      have t' := m.2.1.1 j hq
      have b2' := hv _ _ _ (m.1.1 _ _ _ t')
      have e' : 10 * fr i + fr (sm_nx i) = 10 * fr j + fr (sm_nx j) := e
      exact m.2.1.2.2 i j hp hq (by omega) (by omega)
end
section
/-! an int by its bits (the family bt of kit/laws/BITS.to-paste, renamed) -/
def sm_bt (x : Int32) (i : Nat) : Bool := x.toBitVec.getLsbD i
theorem sm_b_ext {x y : Int32} (h : ∀ i, i < 32 → sm_bt x i = sm_bt y i) : x = y := Int32.toBitVec_inj.mp (BitVec.eq_of_getLsbD_eq (fun i hi => h i hi))
theorem sm_b_or (x y : Int32) (i : Nat) : sm_bt (x ||| y) i = (sm_bt x i || sm_bt y i) := by unfold sm_bt; rw [Int32.toBitVec_or, BitVec.getLsbD_or]
theorem sm_b_and (x y : Int32) (i : Nat) : sm_bt (x &&& y) i = (sm_bt x i && sm_bt y i) := by unfold sm_bt; rw [Int32.toBitVec_and, BitVec.getLsbD_and]
theorem sm_b_xor (x y : Int32) (i : Nat) : sm_bt (x ^^^ y) i = (sm_bt x i ^^ sm_bt y i) := by unfold sm_bt; rw [Int32.toBitVec_xor, BitVec.getLsbD_xor]
theorem sm_b_big {x : Int32} {i : Nat} (h : 32 ≤ i) : sm_bt x i = false := BitVec.getLsbD_of_ge _ _ h
theorem sm_b_m1 : ∀ i, i < 32 → sm_bt (-1) i = true := by decide +kernel
theorem sm_b_0 (i : Nat) : sm_bt 0 i = false := BitVec.getLsbD_zero
theorem sm_s_l : ∀ n, n < 32 → ((nI n &&& 31).toBitVec.smod 32).toNat = n := by decide +kernel
theorem sm_b_shl (n : Nat) (hn : n < 32) (x : Int32) {i : Nat} (hi : i < 32) : sm_bt (x <<< (nI n &&& 31)) i = (decide (n ≤ i) && sm_bt x (i - n)) := by
  unfold sm_bt
  rw [Int32.toBitVec_shiftLeft]
  show (x.toBitVec <<< ((nI n &&& 31).toBitVec.smod 32).toNat).getLsbD i = _
  rw [sm_s_l n hn, BitVec.getLsbD_shiftLeft]
  rcases Nat.lt_or_ge i n with h | h
  · simp [h, Nat.not_le.mpr h]
  · simp [hi, h, Nat.not_lt.mpr h]
theorem sm_b_sshr (n : Nat) (hn : n < 32) (x : Int32) {i : Nat} (hi : i < 32) : sm_bt (x >>> (nI n &&& 31)) i = if n + i < 32 then sm_bt x (n + i) else sm_bt x 31 := by
  unfold sm_bt
  rw [Int32.toBitVec_shiftRight]
  show (x.toBitVec.sshiftRight ((nI n &&& 31).toBitVec.smod 32).toNat).getLsbD i = _
  rw [sm_s_l n hn, BitVec.getLsbD_sshiftRight, BitVec.msb_eq_getLsbD_last]
  simp [hi]
theorem sm_b_1 : ∀ i, i < 32 → sm_bt 1 i = decide (i = 0) := by decide +kernel
theorem sm_b_15 : ∀ i, i < 32 → sm_bt 15 i = decide (i < 4) := by decide +kernel
/-! one bit -/
theorem sm_bit_t {x : Int32} {i : Nat} (hi : i < 32) (h : sm_bt x i = true) : (x >>> (nI i &&& 31)) &&& 1 = 1 := by
  apply sm_b_ext
  intro j hj
  rw [sm_b_and, sm_b_1 j hj]
  by_cases e : j = 0
  · subst e
    rw [sm_b_sshr i hi x hj, if_pos (by omega), Nat.add_zero, h]
    rfl
  · rw [decide_eq_false e, Bool.and_false]
theorem sm_bit_f {x : Int32} {i : Nat} (hi : i < 32) (h : sm_bt x i = false) : (x >>> (nI i &&& 31)) &&& 1 = 0 := by
  apply sm_b_ext
  intro j hj
  rw [sm_b_and, sm_b_1 j hj, sm_b_0]
  by_cases e : j = 0
  · subst e
    rw [sm_b_sshr i hi x hj, if_pos (by omega), Nat.add_zero, h, Bool.false_and]
  · rw [decide_eq_false e, Bool.and_false]
/-- a test 'bit = 0' -/
theorem sm_br0 {x : Int32} {i : Nat} {A B : Prop} (hi : i < 32) (f : sm_bt x i = false → A) (g : sm_bt x i = true → B) : (((x >>> (nI i &&& 31)) &&& 1) = 0 → A) ∧ (¬ ((x >>> (nI i &&& 31)) &&& 1) = 0 → B) := by
  cases h : sm_bt x i
  · exact br_t (sm_bit_f hi h) (f h)
  · exact br_f (by rw [sm_bit_t hi h]; decide) (g h)
/-- a test 'bit = 1' -/
theorem sm_br1 {x : Int32} {i : Nat} {A B : Prop} (hi : i < 32) (f : sm_bt x i = true → A) (g : sm_bt x i = false → B) : (((x >>> (nI i &&& 31)) &&& 1) = 1 → A) ∧ (¬ ((x >>> (nI i &&& 31)) &&& 1) = 1 → B) := by
  cases h : sm_bt x i
  · exact br_f (by rw [sm_bit_f hi h]; decide) (g h)
  · exact br_t (sm_bit_t hi h) (f h)
theorem sm_b_one {i j : Nat} (hi : i < 32) : sm_bt ((1 : Int32) <<< (nI i &&& 31)) j = decide (j = i) := by
  rcases Nat.lt_or_ge j 32 with hj | hj
  · rw [sm_b_shl i hi 1 hj]
    rcases Nat.lt_or_ge j i with q | q
    · rw [decide_eq_false (show ¬ i ≤ j by omega), decide_eq_false (show ¬ j = i by omega), Bool.false_and]
    · rw [decide_eq_true q, Bool.true_and, sm_b_1 _ (by omega)]
      by_cases e : j = i
      · rw [decide_eq_true e, decide_eq_true (by omega)]
      · rw [decide_eq_false e, decide_eq_false (by omega)]
  · rw [sm_b_big hj, decide_eq_false (by omega)]
theorem sm_b_set {x : Int32} {i : Nat} (hi : i < 32) (j : Nat) : sm_bt (x ||| ((1 : Int32) <<< (nI i &&& 31))) j = true ↔ sm_bt x j = true ∨ j = i := by
  rw [sm_b_or, sm_b_one hi, Bool.or_eq_true, decide_eq_true_eq]
theorem sm_b_clr {x m : Int32} (j : Nat) : sm_bt (x &&& (m ^^^ (-1))) j = true ↔ sm_bt x j = true ∧ ¬ sm_bt m j = true := by
  rw [sm_b_and, sm_b_xor]
  rcases Nat.lt_or_ge j 32 with hj | hj
  · rw [sm_b_m1 j hj]
    cases sm_bt x j <;> cases sm_bt m j <;> decide
  · rw [sm_b_big (x := x) hj]
    simp
theorem sm_z {x : Int32} (h : ∀ i, ¬ sm_bt x i = true) : x = 0 := by
  apply sm_b_ext
  intro i _
  rw [sm_b_0]
  cases e : sm_bt x i
  · rfl
  · exact absurd e (h i)
theorem sm_byte : ∀ n, n < 128 → (nI n).toInt8.toInt32 = nI n := by decide +kernel
/-! an array of small numbers -/
def sm_A (n B : Nat) (a : Nat → Int32) (f : Nat → Nat) : Prop := ∀ h, h < n → a h = nI (f h) ∧ f h < B
theorem sm_A_up {n B : Nat} {a : Nat → Int32} {f : Nat → Nat} {k x : Nat} (h : sm_A n B a f) (hx : x < B) : sm_A n B (upd a k (nI x)) (sm_up f k x) := by
  intro j hj
  by_cases e : j = k
  · subst e
    rw [pk_us, sm_up_s]
    exact ⟨rfl, hx⟩
  · rw [pk_un e, sm_up_n e]
    exact h j hj
/-- the sets of bits as predicates -/
abbrev sm_P (x : Int32) : Nat → Prop := fun q => sm_bt x q = true
def sm_K (V F : Int32) (a1 a2 a3 : Nat → Int32) (fr ag ou : Nat → Nat) (E : sm_T) : Prop :=
  sm_M (sm_P F) fr ag E ∧ sm_A 48 10 a1 fr ∧ sm_A 48 48 a2 ag ∧ sm_A 10 48 a3 ou ∧ (∀ x, sm_bt V x = true ↔ ∃ y z, E x y z) ∧ (∀ x, sm_bt V x = true → x < 10) ∧ (∀ q, sm_bt F q = true → q < 16) ∧ sm_cnt (sm_P F) 16 + 4 = 2 * sm_cnt (sm_P V) 10 ∧ (∀ v, sm_bt V v = true → sm_bt F (ou v / 3) = true ∧ fr (ou v) = v)
theorem sm_nx_lt {h : Nat} (hh : h < 48) : sm_nx h < 48 := by unfold sm_nx; split <;> omega
theorem sm_bf_lt {h : Nat} (hh : h < 48) : sm_bf h < 48 := by unfold sm_bf; split <;> omega
/-! small methods -/
theorem sm_w_next {post : Int32 → Prop} {h : Nat} (hh : h < 48) (hp : post (nI (sm_nx h))) : wpX_next post () (nI h) := by
  refine ⟨by decide, ?_⟩
  unfold sm_nx at hp
  refine pk_eq (h % 3) 2 (fun e => ?_) (fun e => ?_) (pk_rem (a := h) (d := 3) (by omega) (by decide) (by decide)) rfl
  · rw [if_pos e] at hp
    rw [show nI h - 2 = nI (h - 2) from pk_sub (b := 2) (by omega)]
    exact hp
  · rw [if_neg e] at hp
    rw [nI_1]
    exact hp
theorem sm_w_bf {post : Int32 → Prop} {h : Nat} (hh : h < 48) (hp : post (nI (sm_bf h))) : wpX_before post () (nI h) := by
  refine ⟨by decide, ?_⟩
  unfold sm_bf at hp
  refine pk_eq (h % 3) 0 (fun e => ?_) (fun e => ?_) (pk_rem (a := h) (d := 3) (by omega) (by decide) (by decide)) rfl
  · rw [if_pos e] at hp
    rw [show nI h + 2 = nI (h + 2) from nI_add h 2]
    exact hp
  · rw [if_neg e] at hp
    rw [show nI h - 1 = nI (h - 1) from pk_sub (b := 1) (by omega)]
    exact hp
theorem sm_w_to {post : Int32 → Prop} {V F : Int32} {a1 a2 a3 : Nat → Int32} {fr : Nat → Nat} {h : Nat} (A1 : sm_A 48 10 a1 fr) (hh : h < 48) (hp : post (nI (fr (sm_nx h)))) : wpX_to post (V, F, a1, a2, a3) (nI h) := by
  unfold wpX_to
  refine sm_w_next hh ⟨pk_in _ 48 (sm_nx_lt hh), ?_⟩
  have := sm_nx_lt hh
  rw [nI_clamp (by omega), (A1 _ this).1]
  exact hp
theorem sm_w_third {post : Int32 → Prop} {V F : Int32} {a1 a2 a3 : Nat → Int32} {fr : Nat → Nat} {h : Nat} (A1 : sm_A 48 10 a1 fr) (hh : h < 48) (hp : post (nI (fr (sm_bf h)))) : wpX_third post (V, F, a1, a2, a3) (nI h) := by
  unfold wpX_third
  refine sm_w_bf hh ⟨pk_in _ 48 (sm_bf_lt hh), ?_⟩
  have := sm_bf_lt hh
  rw [nI_clamp (by omega), (A1 _ this).1]
  exact hp
theorem sm_w_isV {post : Int32 → Prop} {V F : Int32} {a1 a2 a3 : Nat → Int32} {a : Nat} (ha : a < 2 ^ 31) (bV : ∀ x, sm_bt V x = true → x < 10) (h1 : sm_bt V a = true → post 1) (h0 : ¬ sm_bt V a = true → post 0) : wpX_isVertex post (V, F, a1, a2, a3) (nI a) := by
  unfold wpX_isVertex
  refine pk_lt a 0 (fun z => absurd z (by omega)) (fun _ => ?_)
  refine pk_le 10 a (fun z => h0 (fun t => by have := bV _ t; omega)) (fun z => ?_)
  exact sm_br0 (by omega) (fun t => h0 (by rw [t]; decide)) h1
theorem sm_w_isU {post : Int32 → Prop} {V F : Int32} {a1 a2 a3 : Nat → Int32} {q : Nat} (hq : q < 32) (h1 : sm_bt F q = true → post 1) (h0 : ¬ sm_bt F q = true → post 0) : wpX_isUsed post (V, F, a1, a2, a3) (nI q) := by
  unfold wpX_isUsed
  exact sm_br0 hq (fun t => h0 (by rw [t]; decide)) h1
theorem sm_cnt_bit {x : Int32} {i n : Nat} (hi : i < 32) (hn : n = sm_cnt (sm_P x) i) : nI n + ((x >>> (nI i &&& 31)) &&& 1) = nI (sm_cnt (sm_P x) (i + 1)) := by
  cases h : sm_bt x i
  · rw [sm_bit_f hi h, sm_cnt_f (p := sm_P x) (n := i) (by show ¬ sm_bt x i = true; rw [h]; decide), hn]
    exact Int32.add_zero _
  · rw [sm_bit_t hi h, sm_cnt_t (p := sm_P x) (n := i) h, nI_1, hn]
theorem sm_w_ones {post : Int32 → Prop} {V F : Int32} {a1 a2 a3 : Nat → Int32} {x : Int32} (hp : post (nI (sm_cnt (sm_P x) 16))) : wpX_ones post (V, F, a1, a2, a3) x := by
  unfold wpX_ones
  refine pk_loop (σ := Nat) (fun n i s => wX_ones_4 post x V F a1 a2 a3 n (nI s) (nI i)) (fun i s => s = sm_cnt (sm_P x) i) 16 0 0 (by omega) rfl ?_ ?_
  · intro n s hs
    exact pk_le 16 16 (fun _ => by rw [hs]; exact hp) (fun z => absurd z (by omega))
  · intro n i s hi hs hw
    exact pk_le 16 i (fun z => absurd z (by omega)) (fun _ => nm_r (sm_cnt_bit (by omega) hs) (nm_r (nI_1 i) (hw _ rfl)))
theorem sm_w_lones {post : Int32 → Prop} {x : Int32} (hp : post (nI (sm_cnt (sm_P x) 10))) : wpL_ones post () x := by
  unfold wpL_ones
  refine pk_loop (σ := Nat) (fun n i s => wL_ones_4 post x n (nI s) (nI i)) (fun i s => s = sm_cnt (sm_P x) i) 10 0 0 (by omega) rfl ?_ ?_
  · intro n s hs
    exact pk_le 10 10 (fun _ => by rw [hs]; exact hp) (fun z => absurd z (by omega))
  · intro n i s hi hs hw
    exact pk_le 10 i (fun z => absurd z (by omega)) (fun _ => nm_r (sm_cnt_bit (by omega) hs) (nm_r (nI_1 i) (hw _ rfl)))
end
section
/-! the walks of the looking methods -/
theorem sm_us_lt {F : Int32} {h : Nat} (bF : ∀ q, sm_bt F q = true → q < 16) (hh : sm_bt F (h / 3) = true) : h < 48 := by
  have := bF _ hh
  omega
theorem sm_K_b {V F : Int32} {a1 a2 a3 : Nat → Int32} {fr ag ou : Nat → Nat} {E : sm_T} (k : sm_K V F a1 a2 a3 fr ag ou E) : ∀ x y z, E x y z → x < 10 := fun x y z t => k.2.2.2.2.2.1 x ((k.2.2.2.2.1 x).mpr ⟨y, z, t⟩)
theorem sm_w_find {post : Int32 → Prop} {V F : Int32} {a1 a2 a3 : Nat → Int32} {fr ag ou : Nat → Nat} {E : sm_T} (k : sm_K V F a1 a2 a3 fr ag ou E) {a b : Nat} (ha : a < 2 ^ 31) (hb : b < 2 ^ 31)
    (hp : ∀ h, h < 48 → sm_bt F (h / 3) = true → fr h = a → fr (sm_nx h) = b → post (nI h)) (hn : (∀ z, ¬ E a b z) → post (-1)) : wpX_find post (V, F, a1, a2, a3) (nI a) (nI b) := by
  have hE := sm_K_b k
  obtain ⟨m, A1, A2, A3, kV, bV, bF, eu, kO⟩ := k
  unfold wpX_find
  refine sm_w_isV ha bV (fun va => ?_) (fun va => ?_)
  · refine br_f (by decide) (sm_w_isV hb bV (fun vb => ?_) (fun vb => ?_))
    · have a10 := bV a va
      refine br_f (by decide) ⟨pk_in a 10 a10, nm_r (e' := nI (ou a)) (by rw [nI_clamp (by omega)]; exact (A3 a a10).1) ?_⟩
      obtain ⟨o1, o2⟩ := kO a va
      refine pk_loop (σ := Nat) (fun n i s => wX_find_28 post (nI b) V F a1 a2 a3 n (nI s) (nI i)) (fun i s => s = sm_it ag i (ou a) ∧ ∀ j, j < i → fr (sm_nx (sm_it ag j (ou a))) ≠ b) 10 0 (ou a) (by omega) ⟨rfl, fun j hj => absurd hj (by omega)⟩ ?_ ?_
      · rintro n s ⟨_, hs⟩
        refine pk_le 10 10 (fun _ => hn (fun z ez => ?_)) (fun z => absurd z (by omega))
        obtain ⟨g, g1, g2, g3, _⟩ := m.2.1.2.1 _ _ _ ez
        obtain ⟨j, hj, ej⟩ := sm_reach m hE o1 g1 (o2.trans g2.symm)
        exact hs j hj (by rw [ej]; exact g3)
      · rintro n i s hi ⟨es, hs⟩ hw
        obtain ⟨i1, i2⟩ := sm_it_ok m o1 i
        rw [← es] at i1 i2
        have s48 := sm_us_lt bF i1
        have n48 := sm_nx_lt s48
        have b48 := sm_bf_lt s48
        have f10 := (A1 _ n48).2
        refine pk_le 10 i (fun z => absurd z (by omega)) (fun _ => sm_w_to A1 s48 (pk_eq (fr (sm_nx s)) b (fun e => hp s s48 i1 (i2.trans o2) e) (fun ne => sm_w_bf s48 ⟨pk_in _ 48 b48, ?_⟩)))
        refine nm_r (e' := nI (ag (sm_bf s))) (by rw [nI_clamp (by omega)]; exact (A2 _ b48).1) (nm_r (nI_1 i) (hw _ ⟨?_, fun j hj => ?_⟩))
        · rw [es]; rfl
        · by_cases ji : j = i
          · rw [ji, ← es]; exact ne
          · exact hs j (by omega)
    · exact br_t rfl (hn (fun z ez => vb ((kV b).mpr ⟨_, _, m.1.1 _ _ _ ez⟩)))
  · exact br_t rfl (hn (fun z ez => va ((kV a).mpr ⟨_, _, ez⟩)))
theorem sm_w_joinedTo {post : Int32 → Prop} {V F : Int32} {a1 a2 a3 : Nat → Int32} {fr ag ou : Nat → Nat} {E : sm_T} (k : sm_K V F a1 a2 a3 fr ag ou E) {a : Nat} (va : sm_bt V a = true)
    (hp : ∀ J, (∀ y, sm_bt J y = true ↔ ∃ z, E a y z) → post J) : wpX_joinedTo post (V, F, a1, a2, a3) (nI a) := by
  have hE := sm_K_b k
  obtain ⟨m, A1, A2, A3, kV, bV, bF, eu, kO⟩ := k
  have a10 := bV a va
  unfold wpX_joinedTo
  refine ⟨pk_in a 10 a10, nm_r (e' := nI (ou a)) (by rw [nI_clamp (by omega)]; exact (A3 a a10).1) ?_⟩
  obtain ⟨o1, o2⟩ := kO a va
  refine pk_loop (σ := Int32 × Nat) (fun n i s => wX_joinedTo_12 post V F a1 a2 a3 n s.1 (nI s.2) (nI i)) (fun i s => s.2 = sm_it ag i (ou a) ∧ ∀ y, sm_bt s.1 y = true ↔ ∃ j, j < i ∧ fr (sm_nx (sm_it ag j (ou a))) = y) 10 0 (0, ou a) (by omega) ⟨rfl, fun y => ?_⟩ ?_ ?_
  · show sm_bt 0 y = true ↔ _
    rw [sm_b_0]
    exact ⟨fun z => absurd z (by decide), fun ⟨j, hj, _⟩ => absurd hj (by omega)⟩
  · rintro n ⟨J, s⟩ ⟨_, hs⟩
    refine pk_le 10 10 (fun _ => hp J (fun y => ?_)) (fun z => absurd z (by omega))
    rw [hs y]
    constructor
    · rintro ⟨j, _, rfl⟩
      exact ⟨_, o2 ▸ sm_it_E m o1 j⟩
    · rintro ⟨z, ez⟩
      obtain ⟨g, g1, g2, g3, _⟩ := m.2.1.2.1 _ _ _ ez
      obtain ⟨j, hj, ej⟩ := sm_reach m hE o1 g1 (o2.trans g2.symm)
      exact ⟨j, hj, by rw [ej]; exact g3⟩
  · rintro n i ⟨J, s⟩ hi ⟨es, hs⟩ hw
    have es : s = sm_it ag i (ou a) := es
    have hs : ∀ y, sm_bt J y = true ↔ ∃ j, j < i ∧ fr (sm_nx (sm_it ag j (ou a))) = y := hs
    obtain ⟨i1, i2⟩ := sm_it_ok m o1 i
    rw [← es] at i1 i2
    have s48 := sm_us_lt bF i1
    have n48 := sm_nx_lt s48
    have b48 := sm_bf_lt s48
    have f10 := (A1 _ n48).2
    refine pk_le 10 i (fun z => absurd z (by omega)) (fun _ => sm_w_to A1 s48 (nm_e (sm_w_bf s48 ⟨pk_in _ 48 b48, ?_⟩)))
    refine nm_r (e' := nI (ag (sm_bf s))) (by show a2 (nI (sm_bf s)).toNatClampNeg = _; rw [nI_clamp (by omega)]; exact (A2 _ b48).1) (nm_r (nI_1 i) (hw (_, ag (sm_bf s)) ⟨?_, fun y => ?_⟩))
    · show ag (sm_bf s) = _
      rw [es]; rfl
    · show sm_bt (J ||| ((1 : Int32) <<< (nI (fr (sm_nx s)) &&& 31))) y = true ↔ _
      rw [sm_b_set (by omega), hs y]
      constructor
      · rintro (⟨j, hj, e⟩ | e)
        · exact ⟨j, by omega, e⟩
        · exact ⟨i, by omega, by rw [← es]; exact e.symm⟩
      · rintro ⟨j, hj, e⟩
        by_cases ji : j = i
        · subst ji
          rw [← es] at e
          exact Or.inr e.symm
        · exact Or.inl ⟨j, by omega, e⟩
theorem sm_w_joined {post : Int32 → Prop} {V F : Int32} {a1 a2 a3 : Nat → Int32} {fr ag ou : Nat → Nat} {E : sm_T} (k : sm_K V F a1 a2 a3 fr ag ou E) {a : Nat} (ha : a < 2 ^ 31)
    (hp : ∀ J, (∀ y, sm_bt J y = true ↔ ∃ z, E a y z) → post J) : wpX_joined post (V, F, a1, a2, a3) (nI a) := by
  unfold wpX_joined
  refine sm_w_isV ha k.2.2.2.2.2.1 (fun va => ?_) (fun va => ?_)
  · exact br_f (by decide) (sm_w_joinedTo k va hp)
  · refine br_t rfl (hp 0 (fun y => ?_))
    rw [sm_b_0]
    exact ⟨fun z => absurd z (by decide), fun ⟨z, ez⟩ => absurd ((k.2.2.2.2.1 a).mpr ⟨_, _, ez⟩) va⟩
theorem sm_w_opp {post : Int32 → Prop} {V F : Int32} {a1 a2 a3 : Nat → Int32} {fr ag ou : Nat → Nat} {E : sm_T} (k : sm_K V F a1 a2 a3 fr ag ou E) {a b : Nat} (ha : a < 2 ^ 31) (hb : b < 2 ^ 31)
    (hp : ∀ c, c < 10 → E a b c → post (nI c)) (hn : (∀ z, ¬ E a b z) → post (-1)) : wpX_opposite post (V, F, a1, a2, a3) (nI a) (nI b) := by
  unfold wpX_opposite
  refine sm_w_find k ha hb (fun h h48 uh e1 e2 => ?_) (fun t => br_f (by decide) (hn t))
  refine br_t (nI_pos' (by omega)) (sm_w_third k.2.1 h48 (hp _ (k.2.1 _ (sm_bf_lt h48)).2 ?_))
  have := k.1.2.1.1 h uh
  rw [e1, e2] at this
  exact this
theorem sm_w_face {post : Int32 → Prop} {V F : Int32} {a1 a2 a3 : Nat → Int32} {fr ag ou : Nat → Nat} {E : sm_T} (k : sm_K V F a1 a2 a3 fr ag ou E) {a b c : Nat} (ha : a < 2 ^ 31) (hb : b < 2 ^ 31) (hc : c < 2 ^ 31)
    (h1 : E a b c → post 1) (h0 : ¬ E a b c → post 0) : wpX_isFace post (V, F, a1, a2, a3) (nI a) (nI b) (nI c) := by
  unfold wpX_isFace
  refine sm_w_find k ha hb (fun h h48 uh e1 e2 => ?_) (fun t => br_t (by decide) (h0 (t c)))
  have b48 := sm_bf_lt h48
  have f10 := (k.2.1 _ b48).2
  have := k.1.2.1.1 h uh
  rw [e1, e2] at this
  refine br_f (nI_pos (by omega)) (sm_w_third k.2.1 h48 (pk_eq (fr (sm_bf h)) c (fun e => h1 (e ▸ this)) (fun ne => h0 (fun t => ne (k.1.1.2.1 _ _ _ _ this t)))))
theorem sm_w_faces {post : Int32 → Prop} {V F : Int32} {a1 a2 a3 : Nat → Int32} (hp : post (nI (sm_cnt (sm_P F) 16))) : wpX_faces post (V, F, a1, a2, a3) := by
  unfold wpX_faces
  exact sm_w_ones hp
theorem sm_neg_le0 {n : Nat} (hn : n < 2 ^ 31) : -nI n ≤ (0 : Int32) := by
  rw [Int32.le_iff_toInt_le, sb_negT hn]
  show -(n : Int) ≤ 0
  omega
theorem sm_w_ar_p {post : Int32 → Prop} {V F : Int32} {a1 a2 a3 : Nat → Int32} {fr ag ou : Nat → Nat} {E : sm_T} (k : sm_K V F a1 a2 a3 fr ag ou E) {a b t : Nat} (ha : a < 2 ^ 31) (hb : b < 2 ^ 31) (ht : t ≤ 20) (hab : ∃ z, E a b z)
    (hp : ∀ h, sm_bt F (h / 3) = true → fr h = a → fr (sm_nx h) = b → post (nI (fr (sm_nx (sm_it ag t h))))) : wpX_around post (V, F, a1, a2, a3) (nI a) (nI b) (nI t) := by
  obtain ⟨z, ez⟩ := hab
  unfold wpX_around
  refine sm_w_find k ha hb (fun h h48 uh e1 e2 => ?_) (fun q => absurd ez (q z))
  have m := k.1
  have A1 := k.2.1
  have A2 := k.2.2.1
  have bF := k.2.2.2.2.2.2.1
  refine br_f (nI_pos (by omega)) (br_f (fun q => ?_) (br_t (nI_le (b := 20) ht (by decide)) ?_))
  · rw [Int32.lt_iff_toInt_lt, nI_toInt (by omega)] at q
    have : (-20 : Int32).toInt = -20 := by decide
    omega
  · refine pk_loop (σ := Nat) (fun n i s => wX_around_30 post (nI t) V F a1 a2 a3 n (nI s) (nI i)) (fun i s => s = sm_it ag i h) t 0 h (by omega) rfl ?_ ?_
    · intro n s es
      have u1 := (sm_it_ok m uh t).1
      rw [← es] at u1
      refine pk_le t t (fun _ => ⟨1, br_t (sm_neg_le0 (by omega)) (sm_w_to A1 (sm_us_lt bF u1) ?_)⟩) (fun z => absurd z (by omega))
      rw [es]
      exact hp h uh e1 e2
    · intro n i s hi es hw
      have u1 := (sm_it_ok m uh i).1
      rw [← es] at u1
      have s48 := sm_us_lt bF u1
      have b48 := sm_bf_lt s48
      refine pk_le t i (fun z => absurd z (by omega)) (fun _ => sm_w_bf s48 ⟨pk_in _ 48 b48, ?_⟩)
      exact nm_r (e' := nI (ag (sm_bf s))) (by rw [nI_clamp (by omega)]; exact (A2 _ b48).1) (nm_r (nI_1 i) (hw _ (by rw [es]; rfl)))
theorem sm_w_ar_n {post : Int32 → Prop} {V F : Int32} {a1 a2 a3 : Nat → Int32} {fr ag ou : Nat → Nat} {E : sm_T} (k : sm_K V F a1 a2 a3 fr ag ou E) {a b t : Nat} (ha : a < 2 ^ 31) (hb : b < 2 ^ 31) (ht : t ≤ 20) (hab : ∃ z, E a b z)
    (hp : ∀ h, sm_bt F (h / 3) = true → fr h = a → fr (sm_nx h) = b → post (nI (fr (sm_nx (sm_ib ag t h))))) : wpX_around post (V, F, a1, a2, a3) (nI a) (nI b) (-nI t) := by
  obtain ⟨z, ez⟩ := hab
  unfold wpX_around
  refine sm_w_find k ha hb (fun h h48 uh e1 e2 => ?_) (fun q => absurd ez (q z))
  have m := k.1
  have A1 := k.2.1
  have A2 := k.2.2.1
  have bF := k.2.2.2.2.2.2.1
  have t1 : (-nI t).toInt = -(t : Int) := sb_negT (by omega)
  refine br_f (nI_pos (by omega)) (br_f (fun q => ?_) (br_t ?_ ?_))
  · rw [Int32.lt_iff_toInt_lt, t1] at q
    have : (-20 : Int32).toInt = -20 := by decide
    omega
  · rw [Int32.le_iff_toInt_le, t1]
    have : (20 : Int32).toInt = 20 := by decide
    omega
  · refine ⟨1, br_t (sm_neg_le0 (by omega)) ?_⟩
    refine pk_loop (σ := Nat) (fun n i s => wX_around_61 post (-nI t) V F a1 a2 a3 n (nI s) (nI i)) (fun i s => s = sm_ib ag i h) t 0 h (by omega) rfl ?_ ?_
    · intro n s es
      have u1 := (sm_ib_ok m uh t).1
      rw [← es] at u1
      refine pk_le t t (fun _ => sm_w_to A1 (sm_us_lt bF u1) ?_) (fun z => absurd z (by omega)) (Int32.neg_neg)
      rw [es]
      exact hp h uh e1 e2
    · intro n i s hi es hw
      have u1 := (sm_ib_ok m uh i).1
      rw [← es] at u1
      have s48 := sm_us_lt bF u1
      refine pk_le t i (fun z => absurd z (by omega)) (fun _ => ⟨pk_in _ 48 s48, ?_⟩) (Int32.neg_neg)
      refine nm_r (e' := nI (ag s)) (by rw [nI_clamp (by omega)]; exact (A2 _ s48).1) (sm_w_next (A2 _ s48).2 (nm_r (nI_1 i) (hw _ (by rw [es]; rfl))))
end
section
/-! more looking -/
theorem sm_w_dist {post : Int32 → Prop} {V F : Int32} {a1 a2 a3 : Nat → Int32} {fr ag ou : Nat → Nat} {E : sm_T} (k : sm_K V F a1 a2 a3 fr ag ou E) {a b : Nat} (ha : a < 2 ^ 31) (hb : b < 2 ^ 31)
    (hp : ∀ r : Int32, (r = 1 ↔ ∃ z, E a b z) → post r) : wpX_distance post (V, F, a1, a2, a3) (nI a) (nI b) := by
  have kV := k.2.2.2.2.1
  have bV := k.2.2.2.2.2.1
  have hok := k.1.1
  unfold wpX_distance
  refine sm_w_isV ha bV (fun va => ?_) (fun va => ?_)
  · refine br_f (by decide) (sm_w_isV hb bV (fun vb => ?_) (fun vb => ?_))
    · have a10 := bV a va
      have b10 := bV b vb
      refine br_f (by decide) (nm_e ?_)
      refine pk_loop (σ := Int32) (fun n i s => wX_distance_25 post (nI b) V F a1 a2 a3 n s (nI i)) (fun i s => (∀ y, sm_bt s y = true → sm_bt V y = true) ∧ (i = 0 → ∀ y, sm_bt s y = true ↔ y = a) ∧ (i = 1 → b ≠ a ∧ ∀ y, sm_bt s y = true ↔ y = a ∨ ∃ z, E a y z) ∧ (2 ≤ i → ¬ ∃ z, E a b z)) 10 0 _ (by omega) ⟨fun y hy => ?_, fun _ y => ?_, fun z => absurd z (by omega), fun z => absurd z (by omega)⟩ ?_ ?_
      · rw [sm_b_one (by omega), decide_eq_true_eq] at hy
        rw [hy]; exact va
      · rw [sm_b_one (by omega), decide_eq_true_eq]
      · rintro n s ⟨_, _, _, h4⟩
        refine pk_le 10 10 (fun _ => hp _ ⟨fun q => absurd q (by decide), fun q => absurd q (h4 (by omega))⟩) (fun z => absurd z (by omega))
      · rintro n i s hi ⟨h1, h2, h3, h4⟩ hw
        refine pk_le 10 i (fun z => absurd z (by omega)) (fun _ => sm_br0 (by omega) (fun nb => ?_) (fun yb => hp _ ?_))
        · refine pk_loop (σ := Int32) (fun n' j w => wX_distance_46 post (wX_distance_25 post (nI b) V F a1 a2 a3 n) (nI b) s (nI i) V F a1 a2 a3 n' w (nI j)) (fun j w => ∀ y, sm_bt w y = true ↔ sm_bt s y = true ∨ ∃ v, v < j ∧ sm_bt s v = true ∧ ∃ z, E v y z) 10 0 s (by omega) (fun y => ⟨fun q => Or.inl q, fun q => q.elim id (fun ⟨v, q, _⟩ => absurd q (by omega))⟩) ?_ ?_
          · intro n' w hw'
            refine pk_le 10 10 (fun _ => nm_r (nI_1 i) (hw w ⟨fun y hy => ?_, fun q => absurd q (by omega), fun q => ?_, fun q => ?_⟩)) (fun z => absurd z (by omega))
            · rcases (hw' y).mp hy with q | ⟨v, _, _, z, ez⟩
              · exact h1 y q
              · exact (kV y).mpr ⟨_, _, hok.1 _ _ _ ez⟩
            · have i0 : i = 0 := by omega
              have t := h2 i0
              refine ⟨fun e => ?_, fun y => ?_⟩
              · rw [(t b).mpr e] at nb
                exact absurd nb (by decide)
              · rw [hw' y, t y]
                constructor
                · rintro (q | ⟨v, _, q, r⟩)
                  · exact Or.inl q
                  · rw [t v] at q
                    rw [q] at r
                    exact Or.inr r
                · rintro (q | q)
                  · exact Or.inl q
                  · exact Or.inr ⟨a, a10, (t a).mpr rfl, q⟩
            · intro q'
              by_cases i1 : i = 1
              · rw [((h3 i1).2 b).mpr (Or.inr q')] at nb
                exact absurd nb (by decide)
              · exact h4 (by omega) q'
          · intro n' j w hj hw' hk
            refine pk_le 10 j (fun z => absurd z (by omega)) (fun _ => sm_br0 (by omega) (fun nj => ?_) (fun yj => ?_))
            · refine nm_r (Int32.or_zero) (nm_r (nI_1 j) (hk w (fun y => ?_)))
              rw [hw' y]
              constructor
              · rintro (q | ⟨v, q1, q2⟩)
                · exact Or.inl q
                · exact Or.inr ⟨v, by omega, q2⟩
              · rintro (q | ⟨v, q1, q2, q3⟩)
                · exact Or.inl q
                · refine Or.inr ⟨v, ?_, q2, q3⟩
                  by_cases e : v = j
                  · rw [e, nj] at q2
                    exact absurd q2 (by decide)
                  · omega
            · refine sm_w_joinedTo k (h1 j yj) (fun J hJ => nm_e (nm_r (nI_1 j) (hk _ (fun y => ?_))))
              rw [sm_b_or, Bool.or_eq_true, hw' y, hJ y]
              constructor
              · rintro ((q | ⟨v, q1, q2⟩) | q)
                · exact Or.inl q
                · exact Or.inr ⟨v, by omega, q2⟩
                · exact Or.inr ⟨j, by omega, yj, q⟩
              · rintro (q | ⟨v, q1, q2, q3⟩)
                · exact Or.inl (Or.inl q)
                · by_cases e : v = j
                  · rw [e] at q3
                    exact Or.inr q3
                  · exact Or.inl (Or.inr ⟨v, by omega, q2, q3⟩)
        · have e1 : nI i = 1 ↔ i = 1 := nI_eq (b := 1) (by omega) (by decide)
          rw [e1]
          by_cases i0 : i = 0
          · have := (h2 i0 b).mp yb
            refine ⟨fun q => absurd q (by omega), fun ⟨z, ez⟩ => absurd this.symm (hok.2.2.1 _ _ _ ez)⟩
          · by_cases i1 : i = 1
            · obtain ⟨q1, q2⟩ := h3 i1
              exact ⟨fun _ => ((q2 b).mp yb).elim (fun q => absurd q q1) id, fun _ => i1⟩
            · exact ⟨fun q => absurd q i1, fun q => absurd q (h4 (by omega))⟩
    · exact br_t rfl (hp _ ⟨fun q => absurd q (by decide), fun ⟨z, ez⟩ => absurd ((kV b).mpr ⟨_, _, hok.1 _ _ _ ez⟩) vb⟩)
  · exact br_t rfl (hp _ ⟨fun q => absurd q (by decide), fun ⟨z, ez⟩ => absurd ((kV a).mpr ⟨_, _, ez⟩) va⟩)
theorem sm_w_cf {post : Int32 → Prop} {V F : Int32} {a1 a2 a3 : Nat → Int32} {fr ag ou : Nat → Nat} {E : sm_T} (k : sm_K V F a1 a2 a3 fr ag ou E) {h : Nat} (h48 : h < 48)
    (h0 : post 0) (h1 : (∀ z, ¬ E (fr (sm_bf h)) (fr (sm_bf (ag h))) z) → post 1) : wpX_canFlip post (V, F, a1, a2, a3) (nI h) := by
  have A1 := k.2.1
  have A2 := k.2.2.1
  have g48 := (A2 h h48).2
  have c10 := (A1 _ (sm_bf_lt h48)).2
  have d10 := (A1 _ (sm_bf_lt g48)).2
  unfold wpX_canFlip
  refine sm_w_third A1 h48 ⟨pk_in h 48 h48, ?_⟩
  rw [nI_clamp (by omega), (A2 h h48).1]
  refine sm_w_third A1 g48 (br_c (fun _ => h0) (fun _ => sm_w_find k (by omega) (by omega) (fun g g48' _ _ _ => br_t (nI_pos' (by omega)) h0) (fun t => br_f (by decide) (h1 t))))
theorem sm_w_cc {post : Int32 → Prop} {V F : Int32} {a1 a2 a3 : Nat → Int32} {fr ag ou : Nat → Nat} {E : sm_T} (k : sm_K V F a1 a2 a3 fr ag ou E) {a b : Nat} (va : sm_bt V a = true) (vb : sm_bt V b = true)
    (h0 : post 0) (h1 : sm_cnt (fun y => (∃ z, E a y z) ∧ (∃ z, E b y z)) 16 = 2 → 4 < sm_cnt (sm_P V) 16 → post 1) : wpX_canCollapse post (V, F, a1, a2, a3) (nI a) (nI b) := by
  unfold wpX_canCollapse
  refine sm_w_joinedTo k va (fun J hJ => sm_w_joinedTo k vb (fun J' hJ' => nm_e (sm_w_ones ?_)))
  have c16 := sm_cnt_le (sm_P V) 16
  have d16 := sm_cnt_le (sm_P (J &&& J')) 16
  have e : sm_cnt (sm_P (J &&& J')) 16 = sm_cnt (fun y => (∃ z, E a y z) ∧ (∃ z, E b y z)) 16 := sm_cnt_congr (fun i _ => by
    show sm_bt (J &&& J') i = true ↔ _
    rw [sm_b_and, Bool.and_eq_true, hJ i, hJ' i])
  refine pk_le (sm_cnt (sm_P V) 16) 4 (fun _ => h0) (fun q => sm_w_ones (pk_eq (sm_cnt (sm_P (J &&& J')) 16) 2 (fun r => h1 (e ▸ r) q) (fun _ => h0)))
theorem sm_w_deg {post : Int32 → Prop} {V F : Int32} {a1 a2 a3 : Nat → Int32} {fr ag ou : Nat → Nat} {E : sm_T} (k : sm_K V F a1 a2 a3 fr ag ou E) {d : Nat} (hd : d < 10)
    (hp : post (nI (sm_cnt (fun v => sm_bt V v = true ∧ sm_cnt (fun y => ∃ z, E v y z) 10 = d) 10))) : wpX_ofDegree post (V, F, a1, a2, a3) (nI d) := by
  have bV := k.2.2.2.2.2.1
  have kV := k.2.2.2.2.1
  unfold wpX_ofDegree
  refine pk_loop (σ := Nat) (fun n i s => wX_ofDegree_4 post (nI d) V F a1 a2 a3 n (nI s) (nI i)) (fun i s => s = sm_cnt (fun v => sm_bt V v = true ∧ sm_cnt (fun y => ∃ z, E v y z) 10 = d) i) 10 0 0 (by omega) rfl ?_ ?_
  · intro n s hs
    exact pk_le 10 10 (fun _ => by rw [hs]; exact hp) (fun z => absurd z (by omega))
  · intro n i s hi hs hw
    refine pk_le 10 i (fun z => absurd z (by omega)) (fun _ => sm_w_joined k (by omega) (fun J hJ => sm_w_isV (by omega) bV (fun vi => ?_) (fun vi => ?_)))
    · refine br_f (by decide) (sm_w_ones ?_)
      have e : sm_cnt (sm_P J) 16 = sm_cnt (fun y => ∃ z, E i y z) 10 := by
        rw [sm_cnt_congr (p := sm_P J) (q := fun y => ∃ z, E i y z) (n := 16) (fun y _ => hJ y)]
        exact sm_cnt_ext (by omega) (fun y ⟨z, ez⟩ => bV y ((kV y).mpr ⟨_, _, k.1.1.1 _ _ _ ez⟩))
      have e16 := sm_cnt_le (sm_P J) 16
      refine pk_eq (sm_cnt (sm_P J) 16) d (fun q => ?_) (fun q => ?_)
      · refine nm_r (nI_1 s) (nm_r (nI_1 i) (hw _ ?_))
        rw [sm_cnt_t (p := fun v => sm_bt V v = true ∧ sm_cnt (fun y => ∃ z, E v y z) 10 = d) (n := i) ⟨vi, e ▸ q⟩, hs]
      · refine nm_r (Int32.add_zero _) (nm_r (nI_1 i) (hw _ ?_))
        rw [sm_cnt_f (p := fun v => sm_bt V v = true ∧ sm_cnt (fun y => ∃ z, E v y z) 10 = d) (n := i) (fun t => q (e.trans t.2)), hs]
    · refine br_t rfl (nm_r (Int32.add_zero _) (nm_r (nI_1 i) (hw _ ?_)))
      rw [sm_cnt_f (p := fun v => sm_bt V v = true ∧ sm_cnt (fun y => ∃ z, E v y z) 10 = d) (n := i) (fun t => vi t.1), hs]
theorem sm_w_flippable {post : Int32 → Prop} {V F : Int32} {a1 a2 a3 : Nat → Int32} {fr ag ou : Nat → Nat} {E : sm_T} (k : sm_K V F a1 a2 a3 fr ag ou E)
    (hp : ∀ c, c ≤ sm_cnt (fun h => sm_P F (h / 3) ∧ h < ag h) 48 → post (nI c)) : wpX_flippable post (V, F, a1, a2, a3) := by
  have A2 := k.2.2.1
  unfold wpX_flippable
  refine pk_loop (σ := Nat) (fun n i s => wX_flippable_4 post V F a1 a2 a3 n (nI s) (nI i)) (fun i s => s ≤ sm_cnt (fun h => sm_P F (h / 3) ∧ h < ag h) i) 48 0 0 (by omega) (Nat.le_refl _) ?_ ?_
  · intro n s hs
    exact pk_le 48 48 (fun _ => hp _ hs) (fun z => absurd z (by omega))
  · intro n i s hi hs hw
    refine pk_le 48 i (fun z => absurd z (by omega)) (fun _ => ⟨by decide, ?_⟩)
    have stay : s ≤ sm_cnt (fun h => sm_P F (h / 3) ∧ h < ag h) (i + 1) := by
      by_cases t : (fun h => sm_P F (h / 3) ∧ h < ag h) i
      · rw [sm_cnt_t (p := fun h => sm_P F (h / 3) ∧ h < ag h) (n := i) t]; omega
      · rw [sm_cnt_f (p := fun h => sm_P F (h / 3) ∧ h < ag h) (n := i) t]; exact hs
    rw [show nI i / 3 = nI (i / 3) from pk_div (d := 3) (by omega) (by decide) (by decide)]
    refine sm_w_isU (by omega) (fun u => br_f (by decide) ⟨pk_in i 48 hi, ?_⟩) (fun _ => br_t rfl (nm_r (Int32.add_zero _) (nm_r (nI_1 i) (hw _ stay))))
    have g48 := (A2 i hi).2
    rw [nI_clamp (by omega), (A2 i hi).1]
    refine pk_le (ag i) i (fun _ => nm_r (Int32.add_zero _) (nm_r (nI_1 i) (hw _ stay))) (fun q => sm_w_cf k hi (br_t rfl (nm_r (Int32.add_zero _) (nm_r (nI_1 i) (hw _ stay)))) (fun _ => br_f (by decide) (nm_r (nI_1 s) (nm_r (nI_1 i) (hw _ ?_)))))
    rw [sm_cnt_t (p := fun h => sm_P F (h / 3) ∧ h < ag h) (n := i) ⟨u, q⟩]
    omega
end
section
/-! the walks of the changing methods: their steps -/
theorem sm_e0 (f : Nat) : 3 * nI f = nI (3 * f) := pk_mul 3 f
theorem sm_e1 (f : Nat) : 3 * nI f + 1 = nI (3 * f + 1) := by rw [sm_e0, nI_1]
theorem sm_e2 (f : Nat) : 3 * nI f + 2 = nI (3 * f + 2) := by rw [sm_e0]; exact nI_add (3 * f) 2
theorem sm_w_write {post : St1 → Prop} {V F : Int32} {a1 a2 a3 : Nat → Int32} {fr : Nat → Nat} {f a b c : Nat} (A1 : sm_A 48 10 a1 fr) (hf : f < 16) (ha : a < 10) (hb : b < 10) (hc : c < 10)
    (hp : ∀ a1', sm_A 48 10 a1' (sm_wr fr f a b c) → post (V, F, a1', a2, a3)) : wpX_write post (V, F, a1, a2, a3) (nI f) (nI a) (nI b) (nI c) := by
  unfold wpX_write
  refine ⟨pk_in (3 * f) 48 (by omega) (sm_e0 f), nm_r (e' := upd a1 (3 * f) (nI a)) ?_ ⟨pk_in (3 * f + 1) 48 (by omega) (sm_e1 f), nm_r (e' := upd (upd a1 (3 * f) (nI a)) (3 * f + 1) (nI b)) ?_ ⟨pk_in (3 * f + 2) 48 (by omega) (sm_e2 f), nm_r (e' := upd (upd (upd a1 (3 * f) (nI a)) (3 * f + 1) (nI b)) (3 * f + 2) (nI c)) ?_ (hp _ (sm_A_up (sm_A_up (sm_A_up A1 ha) hb) hc))⟩⟩⟩
  · rw [sm_e0, nI_clamp (by omega), sm_byte a (by omega)]
  · rw [sm_e1, nI_clamp (by omega), sm_byte b (by omega)]
  · rw [sm_e2, nI_clamp (by omega), sm_byte c (by omega)]
theorem sm_w_link {post : St1 → Prop} {V F : Int32} {a1 a2 a3 : Nat → Int32} {ag : Nat → Nat} {p q : Int32} (A2 : sm_A 48 48 a2 ag) (x y : Nat) (ep : p = nI x) (eq : q = nI y) (hx : x < 48) (hy : y < 48)
    (hp : ∀ a2', sm_A 48 48 a2' (sm_lk ag x y) → post (V, F, a1, a2', a3)) : wpX_link post (V, F, a1, a2, a3) p q := by
  subst ep eq
  unfold wpX_link
  refine ⟨pk_in x 48 hx, nm_r (e' := upd a2 x (nI y)) ?_ ⟨pk_in y 48 hy, nm_r (e' := upd (upd a2 x (nI y)) y (nI x)) ?_ (hp _ (sm_A_up (sm_A_up A2 hy) hx))⟩⟩
  · rw [nI_clamp (by omega), sm_byte y (by omega)]
  · rw [nI_clamp (by omega), sm_byte x (by omega)]
def sm_I (V F : Int32) (a1 a2 a3 : Nat → Int32) : Prop := ∃ fr ag ou E, sm_K V F a1 a2 a3 fr ag ou E
theorem sm_w_refresh {post : St1 → Prop} {V F : Int32} {a1 a2 a3 : Nat → Int32} {fr ou : Nat → Nat} (A1 : sm_A 48 10 a1 fr) (A3 : sm_A 10 48 a3 ou)
    (hp : ∀ a3' ou', sm_A 10 48 a3' ou' → (∀ h, h < 48 → sm_bt F (h / 3) = true → sm_bt F (ou' (fr h) / 3) = true ∧ fr (ou' (fr h)) = fr h) → post (V, F, a1, a2, a3')) : wpX_refresh post (V, F, a1, a2, a3) := by
  unfold wpX_refresh
  refine pk_loop (σ := Nat → Int32) (fun n i s => wX_refresh_2 post V F n (nI i) a1 a2 s) (fun i s => ∃ ou', sm_A 10 48 s ou' ∧ ∀ h, h < i → sm_bt F (h / 3) = true → sm_bt F (ou' (fr h) / 3) = true ∧ fr (ou' (fr h)) = fr h) 48 0 a3 (by omega) ⟨ou, A3, fun h hh => absurd hh (by omega)⟩ ?_ ?_
  · rintro n s ⟨ou', B3, hs⟩
    exact pk_le 48 48 (fun _ => hp s ou' B3 hs) (fun z => absurd z (by omega))
  · rintro n i s hi ⟨ou', B3, hs⟩ hw
    refine pk_le 48 i (fun z => absurd z (by omega)) (fun _ => ⟨by decide, ?_⟩)
    rw [show nI i / 3 = nI (i / 3) from pk_div (d := 3) (by omega) (by decide) (by decide)]
    obtain ⟨x1, x2⟩ := A1 i hi
    have x1' : a1 (nI i).toNatClampNeg = nI (fr i) := by rw [nI_clamp (by omega)]; exact x1
    refine sm_w_isU (by omega) (fun u => br_f (by decide) ⟨pk_in i 48 hi, pk_in (fr i) 10 x2 x1', ?_⟩) (fun nu => br_t rfl (nm_r (nI_1 i) (hw _ ⟨ou', B3, fun h hh uh => ?_⟩)))
    · refine nm_r (e' := upd s (fr i) (nI i)) (by rw [x1', nI_clamp (by omega), sm_byte i (by omega)]) (nm_r (nI_1 i) (hw _ ⟨sm_up ou' (fr i) i, sm_A_up B3 hi, fun h hh uh => ?_⟩))
      by_cases e : fr h = fr i
      · rw [e, sm_up_s]
        exact ⟨u, rfl⟩
      · rw [sm_up_n e]
        refine hs h ?_ uh
        by_cases hi' : h = i
        · exact absurd (congrArg fr hi') e
        · omega
    · refine hs h ?_ uh
      by_cases hi' : h = i
      · exact absurd (hi' ▸ uh) nu
      · omega
theorem sm_w_fin {post : St1 → Prop} {V F : Int32} {a1 a2 a3 : Nat → Int32} {fr ag ou : Nat → Nat} {E : sm_T} (m : sm_M (sm_P F) fr ag E) (A1 : sm_A 48 10 a1 fr) (A2 : sm_A 48 48 a2 ag) (A3 : sm_A 10 48 a3 ou)
    (kV : ∀ x, sm_bt V x = true ↔ ∃ y z, E x y z) (bV : ∀ x, sm_bt V x = true → x < 10) (bF : ∀ q, sm_bt F q = true → q < 16) (eu : sm_cnt (sm_P F) 16 + 4 = 2 * sm_cnt (sm_P V) 10)
    (hp : ∀ a3', sm_I V F a1 a2 a3' → post (V, F, a1, a2, a3')) : wpX_refresh post (V, F, a1, a2, a3) := by
  refine sm_w_refresh A1 A3 (fun a3' ou' B3 hs => hp a3' ⟨fr, ag, ou', E, m, A1, A2, B3, kV, bV, bF, eu, fun v hv => ?_⟩)
  obtain ⟨y, z, e⟩ := (kV v).mp hv
  obtain ⟨h, h1, h2, _, _⟩ := m.2.1.2.1 _ _ _ e
  have := hs h (sm_us_lt bF h1) h1
  rw [h2] at this
  exact this
theorem sm_w_freeV {post : Int32 → Prop} {V F : Int32} {a1 a2 a3 : Nat → Int32} (bV : ∀ x, sm_bt V x = true → x < 10) (h1 : ∀ v, v < 10 → ¬ sm_bt V v = true → post (nI v)) (h0 : post (nI 10)) : wpX_freeVertex post (V, F, a1, a2, a3) := by
  unfold wpX_freeVertex
  refine pk_loop (σ := Unit) (fun n i _ => wX_freeVertex_2 post V F a1 a2 a3 n (nI i)) (fun _ _ => True) 10 0 () (by omega) trivial ?_ ?_
  · intro n _ _
    exact pk_le 10 10 (fun _ => h0) (fun z => absurd z (by omega))
  · intro n i _ hi _ hw
    exact pk_le 10 i (fun z => absurd z (by omega)) (fun _ => sm_w_isV (by omega) bV (fun _ => br_f (by decide) (nm_r (nI_1 i) (hw () trivial))) (fun t => br_t rfl (h1 i hi t)))
theorem sm_w_newF {post : Int32 → St1 → Prop} {V F : Int32} {a1 a2 a3 : Nat → Int32} (hc : sm_cnt (sm_P F) 16 ≤ 15) (h1 : ∀ f, f < 16 → ¬ sm_bt F f = true → post (nI f) (V, F ||| ((1 : Int32) <<< (nI f &&& 31)), a1, a2, a3)) : wpX_newFace post (V, F, a1, a2, a3) := by
  unfold wpX_newFace
  refine pk_loop (σ := Unit) (fun n i _ => wX_newFace_2 post V F a1 a2 a3 n (nI i)) (fun i _ => ∀ j, j < i → sm_bt F j = true) 15 0 () (by omega) (fun j hj => absurd hj (by omega)) ?_ ?_
  · intro n _ hs
    refine pk_le 15 15 (fun _ => nm_e (h1 15 (by omega) (fun t => ?_))) (fun z => absurd z (by omega))
    rw [sm_cnt_all (p := sm_P F) (n := 16) (fun i hi => by
      show sm_bt F i = true
      by_cases e : i = 15
      · rw [e]; exact t
      · exact hs i (by omega))] at hc
    omega
  · intro n i _ hi hs hw
    refine pk_le 15 i (fun z => absurd z (by omega)) (fun _ => sm_w_isU (by omega) (fun u => br_f (by decide) (nm_r (nI_1 i) (hw () (fun j hj => ?_)))) (fun t => br_t rfl (nm_e (h1 i (by omega) t))))
    by_cases e : j = i
    · rw [e]; exact u
    · exact hs j (by omega)
/-- one more bit: how many -/
theorem sm_cnt_set {x : Int32} {i n : Nat} (hi : i < n) (h32 : i < 32) (h : ¬ sm_bt x i = true) : sm_cnt (sm_P (x ||| ((1 : Int32) <<< (nI i &&& 31)))) n = sm_cnt (sm_P x) n + 1 :=
  sm_cnt_ins hi h (fun j _ => sm_b_set h32 j)
theorem sm_M_congr {fs fs' : Nat → Prop} {fr ag : Nat → Nat} {E : sm_T} (h : ∀ q, fs' q ↔ fs q) (hr : sm_M fs fr ag E) : sm_M fs' fr ag E := by
  have : fs' = fs := funext (fun q => propext (h q))
  rw [this]
  exact hr
theorem sm_w_sf {post : Int32 → St1 → Prop} {V F : Int32} {a1 a2 a3 : Nat → Int32} {fr ag ou : Nat → Nat} {E : sm_T} (k : sm_K V F a1 a2 a3 fr ag ou E) {a b : Nat} {p2 : Int32} (ha : a < 2 ^ 31) (hb : b < 2 ^ 31)
    (hE : (∃ c, c < 10 ∧ E a b c ∧ p2 = nI c) ∨ (∀ z, ¬ E a b z)) (hp : ∀ r V' F' a1' a2' a3', sm_I V' F' a1' a2' a3' → post r (V', F', a1', a2', a3')) : wpX_splitFace post (V, F, a1, a2, a3) (nI a) (nI b) p2 := by
  have same : ∀ r, post r (V, F, a1, a2, a3) := fun r => hp r _ _ _ _ _ ⟨fr, ag, ou, E, k⟩
  have hE10 := sm_K_b k
  obtain ⟨m, A1, A2, A3, kV, bV, bF, eu, kO⟩ := id k
  unfold wpX_splitFace
  refine sm_w_find k ha hb (fun h h48 uh e1 e2 => ?_) (fun t => br_t (by decide) (same _))
  have Eh := m.2.1.1 h uh
  rw [e1, e2] at Eh
  have hE' : ∃ c, c < 10 ∧ E a b c ∧ p2 = nI c := hE.elim id (fun no => absurd Eh (no _))
  obtain ⟨c, c10, Ec, rfl⟩ := hE'
  have ec : fr (sm_bf h) = c := m.1.2.1 _ _ _ _ Eh Ec
  have a10 : a < 10 := hE10 _ _ _ Ec
  have b10 : b < 10 := hE10 _ _ _ (m.1.1 _ _ _ Ec)
  have n48 := sm_nx_lt h48
  have b48 := sm_bf_lt h48
  refine br_f (nI_pos (by omega)) (sm_w_third A1 h48 (br_t (by rw [ec]) (sm_w_freeV bV (fun v v10 nv => ?_) (br_t rfl (same _)))))
  refine br_f (fun q => absurd ((nI_eq (b := 10) (by omega) (by decide)).mp q) (by omega)) (sm_w_next h48 (sm_w_bf h48 ⟨pk_in _ 48 n48, ?_⟩))
  refine nm_r (e' := nI (ag (sm_nx h))) (by rw [nI_clamp (by omega)]; exact (A2 _ n48).1) ⟨pk_in _ 48 b48, ?_⟩
  refine nm_r (e' := nI (ag (sm_bf h))) (by rw [nI_clamp (by omega)]; exact (A2 _ b48).1) ⟨pk_in _ 48 h48, ?_⟩
  refine nm_r (e' := nI (ag h)) (by rw [nI_clamp (by omega)]; exact (A2 _ h48).1) ⟨by decide, ?_⟩
  refine nm_r (e' := nI (h / 3)) (pk_div (d := 3) (by omega) (by decide) (by decide)) ?_
  have cV : sm_cnt (sm_P (V ||| ((1 : Int32) <<< (nI v &&& 31)))) 10 = sm_cnt (sm_P V) 10 + 1 := sm_cnt_set v10 (by omega) nv
  have cV' := sm_cnt_le (sm_P (V ||| ((1 : Int32) <<< (nI v &&& 31)))) 10
  refine sm_w_newF (by omega) (fun g g16 ng => ?_)
  have cF : sm_cnt (sm_P (F ||| ((1 : Int32) <<< (nI g &&& 31)))) 16 = sm_cnt (sm_P F) 16 + 1 := sm_cnt_set g16 (by omega) ng
  refine sm_w_newF (by omega) (fun q q16 nq => ?_)
  have cF2 := sm_cnt_set (n := 16) q16 (by omega) nq
  have gq : g ≠ q := fun e => nq ((sm_b_set (by omega) q).mpr (Or.inr e.symm))
  have nq' : ¬ sm_bt F q = true := fun t => nq ((sm_b_set (by omega) q).mpr (Or.inl t))
  have hv : ∀ y z, ¬ E v y z := fun y z t => nv ((kV v).mpr ⟨_, _, t⟩)
  have M' := sm_p_sf m uh e1 e2 ec hv ng nq' gq
  have f16 : h / 3 < 16 := by omega
  refine sm_w_write A1 f16 a10 b10 v10 (fun a11 B1 => sm_w_write B1 g16 b10 c10 v10 (fun a12 B2 => sm_w_write B2 q16 c10 a10 v10 (fun a13 B3 => ?_)))
  refine sm_w_link A2 _ _ (sm_e0 _) rfl (by omega) (A2 _ h48).2 (fun a21 C1 => ?_)
  refine sm_w_link C1 _ _ (sm_e0 _) rfl (by omega) (A2 _ n48).2 (fun a22 C2 => ?_)
  refine sm_w_link C2 _ _ (sm_e0 _) rfl (by omega) (A2 _ b48).2 (fun a23 C3 => ?_)
  refine sm_w_link C3 _ _ (sm_e1 _) (sm_e2 _) (by omega) (by omega) (fun a24 C4 => ?_)
  refine sm_w_link C4 _ _ (sm_e1 _) (sm_e2 _) (by omega) (by omega) (fun a25 C5 => ?_)
  refine sm_w_link C5 _ _ (sm_e1 _) (sm_e2 _) (by omega) (by omega) (fun a26 C6 => nm_e ?_)
  refine sm_w_fin (sm_M_congr (fun w => ?_) M') B3 C6 A3 (fun x => ?_) (fun x t => ?_) (fun w t => ?_) (by omega) (fun a3' I' => hp _ _ _ _ _ _ I')
  · show sm_bt _ w = true ↔ _
    rw [sm_b_set (by omega), sm_b_set (by omega)]
  · rw [sm_b_set (by omega), sm_sf_v m.1.1 Ec, kV x]
  · rcases (sm_b_set (by omega) x).mp t with q | q
    · exact bV x q
    · omega
  · rcases (sm_b_set (by omega) w).mp t with r | r
    · rcases (sm_b_set (by omega) w).mp r with r | r
      · exact bF w r
      · omega
    · omega
end
section
/-! turning an edge, cutting an edge -/
theorem sm_w_fl {post : Int32 → St1 → Prop} {V F : Int32} {a1 a2 a3 : Nat → Int32} {fr ag ou : Nat → Nat} {E : sm_T} (k : sm_K V F a1 a2 a3 fr ag ou E) {a b : Nat} (ha : a < 2 ^ 31) (hb : b < 2 ^ 31)
    (hp : ∀ r a1' a2' a3', sm_I V F a1' a2' a3' → post r (V, F, a1', a2', a3')) : wpX_flip post (V, F, a1, a2, a3) (nI a) (nI b) := by
  have same : ∀ r, post r (V, F, a1, a2, a3) := fun r => hp r _ _ _ ⟨fr, ag, ou, E, k⟩
  have hE10 := sm_K_b k
  obtain ⟨m, A1, A2, A3, kV, bV, bF, eu, kO⟩ := id k
  unfold wpX_flip
  refine sm_w_find k ha hb (fun h h48 uh e1 e2 => ?_) (fun t => br_f (by decide) (same _))
  have Eh := m.2.1.1 h uh
  rw [e1, e2] at Eh
  have a10 : a < 10 := hE10 _ _ _ Eh
  have b10 : b < 10 := hE10 _ _ _ (m.1.1 _ _ _ Eh)
  have n48 := sm_nx_lt h48
  have b48 := sm_bf_lt h48
  have r48 := (A2 h h48).2
  have rn48 := sm_nx_lt r48
  have rb48 := sm_bf_lt r48
  have c10 := (A1 _ b48).2
  have d10 := (A1 _ rb48).2
  refine br_t (nI_pos' (by omega)) (sm_w_cf k h48 (br_t rfl (same _)) (fun hcd => br_f (by decide) ⟨pk_in h 48 h48, ?_⟩))
  have M' := sm_p_fl m rfl uh e1 e2 rfl rfl hcd
  have hq := (sm_around4 m uh e1 e2 rfl rfl).2.2.2.2.1
  refine nm_r (e' := nI (ag h)) (by rw [nI_clamp (by omega)]; exact (A2 _ h48).1) ?_
  refine sm_w_third A1 h48 (sm_w_third A1 r48 (sm_w_next h48 (sm_w_bf h48 (sm_w_next r48 (sm_w_bf r48 ⟨pk_in _ 48 n48, ?_⟩)))))
  refine nm_r (e' := nI (ag (sm_nx h))) (by rw [nI_clamp (by omega)]; exact (A2 _ n48).1) ⟨pk_in _ 48 b48, ?_⟩
  refine nm_r (e' := nI (ag (sm_bf h))) (by rw [nI_clamp (by omega)]; exact (A2 _ b48).1) ⟨pk_in _ 48 rn48, ?_⟩
  refine nm_r (e' := nI (ag (sm_nx (ag h)))) (by rw [nI_clamp (by omega)]; exact (A2 _ rn48).1) ⟨pk_in _ 48 rb48, ?_⟩
  refine nm_r (e' := nI (ag (sm_bf (ag h)))) (by rw [nI_clamp (by omega)]; exact (A2 _ rb48).1) ⟨by decide, ?_⟩
  refine nm_r (e' := nI (h / 3)) (pk_div (d := 3) (by omega) (by decide) (by decide)) ⟨by decide, ?_⟩
  refine nm_r (e' := nI (ag h / 3)) (pk_div (d := 3) (by omega) (by decide) (by decide)) ?_
  have f16 : h / 3 < 16 := by omega
  have g16 : ag h / 3 < 16 := by omega
  refine sm_w_write A1 f16 c10 a10 d10 (fun a11 B1 => sm_w_write B1 g16 d10 b10 c10 (fun a12 B2 => ?_))
  refine sm_w_link A2 _ _ (sm_e0 _) rfl (by omega) (A2 _ b48).2 (fun a21 C1 => ?_)
  refine sm_w_link C1 _ _ (sm_e1 _) rfl (by omega) (A2 _ rn48).2 (fun a22 C2 => ?_)
  refine sm_w_link C2 _ _ (sm_e2 _) (sm_e2 _) (by omega) (by omega) (fun a23 C3 => ?_)
  refine sm_w_link C3 _ _ (sm_e0 _) rfl (by omega) (A2 _ rb48).2 (fun a24 C4 => ?_)
  refine sm_w_link C4 _ _ (sm_e1 _) rfl (by omega) (A2 _ n48).2 (fun a25 C5 => ?_)
  exact sm_w_fin M' B2 C5 A3 (fun x => by rw [kV x, sm_fl_v hq]) bV bF eu (fun a3' I' => hp _ _ _ _ I')
theorem sm_w_se {post : Int32 → St1 → Prop} {V F : Int32} {a1 a2 a3 : Nat → Int32} {fr ag ou : Nat → Nat} {E : sm_T} (k : sm_K V F a1 a2 a3 fr ag ou E) {a b : Nat} (ha : a < 2 ^ 31) (hb : b < 2 ^ 31)
    (hp : ∀ r V' F' a1' a2' a3', sm_I V' F' a1' a2' a3' → post r (V', F', a1', a2', a3')) : wpX_splitEdge post (V, F, a1, a2, a3) (nI a) (nI b) := by
  have same : ∀ r, post r (V, F, a1, a2, a3) := fun r => hp r _ _ _ _ _ ⟨fr, ag, ou, E, k⟩
  have hE10 := sm_K_b k
  obtain ⟨m, A1, A2, A3, kV, bV, bF, eu, kO⟩ := id k
  unfold wpX_splitEdge
  refine sm_w_find k ha hb (fun h h48 uh e1 e2 => ?_) (fun t => br_f (by decide) (same _))
  have Eh := m.2.1.1 h uh
  rw [e1, e2] at Eh
  have a10 : a < 10 := hE10 _ _ _ Eh
  have b10 : b < 10 := hE10 _ _ _ (m.1.1 _ _ _ Eh)
  have n48 := sm_nx_lt h48
  have b48 := sm_bf_lt h48
  have r48 := (A2 h h48).2
  have rn48 := sm_nx_lt r48
  have rb48 := sm_bf_lt r48
  have c10 := (A1 _ b48).2
  have d10 := (A1 _ rb48).2
  refine br_t (nI_pos' (by omega)) (sm_w_freeV bV (fun v v10 nv => ?_) (br_t rfl (same _)))
  refine br_f (fun q => absurd ((nI_eq (b := 10) (by omega) (by decide)).mp q) (by omega)) ⟨pk_in h 48 h48, ?_⟩
  refine nm_r (e' := nI (ag h)) (by rw [nI_clamp (by omega)]; exact (A2 _ h48).1) ?_
  refine sm_w_third A1 h48 (sm_w_third A1 r48 (sm_w_next h48 (sm_w_bf h48 (sm_w_next r48 (sm_w_bf r48 ⟨pk_in _ 48 n48, ?_⟩)))))
  refine nm_r (e' := nI (ag (sm_nx h))) (by rw [nI_clamp (by omega)]; exact (A2 _ n48).1) ⟨pk_in _ 48 b48, ?_⟩
  refine nm_r (e' := nI (ag (sm_bf h))) (by rw [nI_clamp (by omega)]; exact (A2 _ b48).1) ⟨pk_in _ 48 rn48, ?_⟩
  refine nm_r (e' := nI (ag (sm_nx (ag h)))) (by rw [nI_clamp (by omega)]; exact (A2 _ rn48).1) ⟨pk_in _ 48 rb48, ?_⟩
  refine nm_r (e' := nI (ag (sm_bf (ag h)))) (by rw [nI_clamp (by omega)]; exact (A2 _ rb48).1) ⟨by decide, ?_⟩
  refine nm_r (e' := nI (h / 3)) (pk_div (d := 3) (by omega) (by decide) (by decide)) ⟨by decide, ?_⟩
  refine nm_r (e' := nI (ag h / 3)) (pk_div (d := 3) (by omega) (by decide) (by decide)) ?_
  have f16 : h / 3 < 16 := by omega
  have e16 : ag h / 3 < 16 := by omega
  have cV : sm_cnt (sm_P (V ||| ((1 : Int32) <<< (nI v &&& 31)))) 10 = sm_cnt (sm_P V) 10 + 1 := sm_cnt_set v10 (by omega) nv
  have cV' := sm_cnt_le (sm_P (V ||| ((1 : Int32) <<< (nI v &&& 31)))) 10
  refine sm_w_newF (by omega) (fun g g16 ng => ?_)
  have cF : sm_cnt (sm_P (F ||| ((1 : Int32) <<< (nI g &&& 31)))) 16 = sm_cnt (sm_P F) 16 + 1 := sm_cnt_set g16 (by omega) ng
  refine sm_w_newF (by omega) (fun q q16 nq => ?_)
  have cF2 := sm_cnt_set (n := 16) q16 (by omega) nq
  have gq : g ≠ q := fun e => nq ((sm_b_set (by omega) q).mpr (Or.inr e.symm))
  have nq' : ¬ sm_bt F q = true := fun t => nq ((sm_b_set (by omega) q).mpr (Or.inl t))
  have hv : ∀ y z, ¬ E v y z := fun y z t => nv ((kV v).mpr ⟨_, _, t⟩)
  have M' := sm_p_se m rfl uh e1 e2 rfl rfl hv ng nq' gq
  have hq := (sm_around4 m uh e1 e2 rfl rfl).2.2.2.2.1
  refine sm_w_write A1 f16 a10 v10 c10 (fun a11 B1 => sm_w_write B1 g16 v10 b10 c10 (fun a12 B2 => sm_w_write B2 e16 b10 v10 d10 (fun a13 B3 => sm_w_write B3 q16 v10 a10 d10 (fun a14 B4 => ?_))))
  refine sm_w_link A2 _ _ (sm_e0 _) (sm_e0 _) (by omega) (by omega) (fun a21 C1 => ?_)
  refine sm_w_link C1 _ _ (sm_e0 _) (sm_e0 _) (by omega) (by omega) (fun a22 C2 => ?_)
  refine sm_w_link C2 _ _ (sm_e1 _) (sm_e2 _) (by omega) (by omega) (fun a23 C3 => ?_)
  refine sm_w_link C3 _ _ (sm_e1 _) (sm_e2 _) (by omega) (by omega) (fun a24 C4 => ?_)
  refine sm_w_link C4 _ _ (sm_e2 _) rfl (by omega) (A2 _ b48).2 (fun a25 C5 => ?_)
  refine sm_w_link C5 _ _ (sm_e1 _) rfl (by omega) (A2 _ n48).2 (fun a26 C6 => ?_)
  refine sm_w_link C6 _ _ (sm_e2 _) rfl (by omega) (A2 _ rb48).2 (fun a27 C7 => ?_)
  refine sm_w_link C7 _ _ (sm_e1 _) rfl (by omega) (A2 _ rn48).2 (fun a28 C8 => nm_e ?_)
  refine sm_w_fin (sm_M_congr (fun w => ?_) M') B4 C8 A3 (fun x => ?_) (fun x t => ?_) (fun w t => ?_) (by omega) (fun a3' I' => hp _ _ _ _ _ _ I')
  · show sm_bt _ w = true ↔ _
    rw [sm_b_set (by omega), sm_b_set (by omega)]
  · rw [sm_b_set (by omega), sm_se_v m.1 hv hq, kV x]
  · rcases (sm_b_set (by omega) x).mp t with q | q
    · exact bV x q
    · omega
  · rcases (sm_b_set (by omega) w).mp t with r | r
    · rcases (sm_b_set (by omega) w).mp r with r | r
      · exact bF w r
      · omega
    · omega
end
section
/-! drawing an edge together -/
def sm_g (fr : Nat → Nat) (a b i : Nat) : Nat → Nat := fun h => if h < i then sm_s a b (fr h) else fr h
theorem sm_g_step {s : Nat → Int32} {fr : Nat → Nat} {a b i x : Nat} (h : sm_A 48 10 s (sm_g fr a b i)) (hx : x < 10) (e : sm_s a b (fr i) = x) : sm_A 48 10 (upd s i (nI x)) (sm_g fr a b (i + 1)) := by
  intro j hj
  by_cases q : j = i
  · subst q
    have : sm_g fr a b (j + 1) j = x := by unfold sm_g; rw [if_pos (by omega), e]
    rw [pk_us, this]
    exact ⟨rfl, hx⟩
  · have : sm_g fr a b (i + 1) j = sm_g fr a b i j := by
      unfold sm_g
      by_cases r : j < i
      · rw [if_pos r, if_pos (by omega)]
      · rw [if_neg r, if_neg (by omega)]
    rw [pk_un q, this]
    exact h j hj
theorem sm_w_co {post : Int32 → St1 → Prop} {V F : Int32} {a1 a2 a3 : Nat → Int32} {fr ag ou : Nat → Nat} {E : sm_T} (k : sm_K V F a1 a2 a3 fr ag ou E) {a b : Nat} (ha : a < 2 ^ 31) (hb : b < 2 ^ 31)
    (hp : ∀ r V' F' a1' a2' a3', sm_I V' F' a1' a2' a3' → post r (V', F', a1', a2', a3')) : wpX_collapse post (V, F, a1, a2, a3) (nI a) (nI b) := by
  have same : ∀ r, post r (V, F, a1, a2, a3) := fun r => hp r _ _ _ _ _ ⟨fr, ag, ou, E, k⟩
  have hE10 := sm_K_b k
  obtain ⟨m, A1, A2, A3, kV, bV, bF, eu, kO⟩ := id k
  unfold wpX_collapse
  refine sm_w_find k ha hb (fun h h48 uh e1 e2 => ?_) (fun t => br_f (by decide) (same _))
  have Eh := m.2.1.1 h uh
  rw [e1, e2] at Eh
  have va : sm_bt V a = true := (kV a).mpr ⟨_, _, Eh⟩
  have vb : sm_bt V b = true := (kV b).mpr ⟨_, _, m.1.1 _ _ _ Eh⟩
  have a10 : a < 10 := bV a va
  have b10 : b < 10 := bV b vb
  have n48 := sm_nx_lt h48
  have b48 := sm_bf_lt h48
  have r48 := (A2 h h48).2
  have rn48 := sm_nx_lt r48
  have rb48 := sm_bf_lt r48
  refine br_t (nI_pos' (by omega)) (sm_w_cc k va vb (br_t rfl (same _)) (fun h2 h5 => br_f (by decide) ⟨pk_in h 48 h48, ?_⟩))
  obtain ⟨ur, nf, _, _, hq, _⟩ := sm_around4 m uh e1 e2 rfl rfl
  generalize hc : fr (sm_bf h) = c at hq
  generalize hd : fr (sm_bf (ag h)) = d at hq
  have cc : sm_cc E a b c d := by
    obtain ⟨⟨q1, q2, q3⟩, ⟨q4, q5, q6⟩, n1, n2, n3, n4, n5, n6⟩ := id hq
    refine ⟨hq, fun x y z t1 t2 => ?_, ?_⟩
    · have c10 := hE10 _ _ _ q3
      have d10 := hE10 _ _ _ q6
      have x10 := hE10 _ _ _ (m.1.1 _ _ _ t1)
      exact sm_cnt_two h2 (by omega) (by omega) (by omega) ⟨m.1.2.2.2.1 _ _ _ q3, ⟨_, q2⟩⟩ ⟨⟨_, q5⟩, m.1.2.2.2.1 _ _ _ q6⟩ ⟨⟨_, t1⟩, ⟨_, t2⟩⟩ n6
    · obtain ⟨x, _, x1, x2, x3, x4, x5⟩ := sm_cnt_five (a := a) (b := b) (c := c) (d := d) h5
      obtain ⟨y, z, t⟩ := (kV x).mp x1
      exact ⟨x, y, z, t, x2, x3, x4, x5⟩
  have M' := sm_p_co m rfl uh e1 e2 hc hd cc
  refine nm_r (e' := nI (ag h)) (by rw [nI_clamp (by omega)]; exact (A2 _ h48).1) ?_
  refine sm_w_next h48 (sm_w_bf h48 (sm_w_next r48 (sm_w_bf r48 ⟨pk_in _ 48 n48, ?_⟩)))
  refine nm_r (e' := nI (ag (sm_nx h))) (by rw [nI_clamp (by omega)]; exact (A2 _ n48).1) ⟨pk_in _ 48 b48, ?_⟩
  refine nm_r (e' := nI (ag (sm_bf h))) (by rw [nI_clamp (by omega)]; exact (A2 _ b48).1) ⟨pk_in _ 48 rn48, ?_⟩
  refine nm_r (e' := nI (ag (sm_nx (ag h)))) (by rw [nI_clamp (by omega)]; exact (A2 _ rn48).1) ⟨pk_in _ 48 rb48, ?_⟩
  refine nm_r (e' := nI (ag (sm_bf (ag h)))) (by rw [nI_clamp (by omega)]; exact (A2 _ rb48).1) ⟨by decide, by decide, ?_⟩
  generalize hF : F &&& (((1 : Int32) <<< (nI (h / 3) &&& 31) ||| (1 : Int32) <<< (nI (ag h / 3) &&& 31)) ^^^ (-1)) = F'
  refine nm_r (e' := F') (by rw [← hF, show nI h / 3 = nI (h / 3) from pk_div (d := 3) (by omega) (by decide) (by decide), show nI (ag h) / 3 = nI (ag h / 3) from pk_div (d := 3) (by omega) (by decide) (by decide)]) ?_
  have fF : ∀ w, sm_bt F' w = true ↔ (sm_bt F w = true ∧ w ≠ h / 3) ∧ w ≠ ag h / 3 := by
    intro w
    rw [← hF, sm_b_clr, sm_b_or, sm_b_one (by omega), sm_b_one (by omega), Bool.or_eq_true, decide_eq_true_eq, decide_eq_true_eq]
    constructor
    · rintro ⟨t1, t2⟩
      exact ⟨⟨t1, fun e => t2 (Or.inl e)⟩, fun e => t2 (Or.inr e)⟩
    · rintro ⟨⟨t1, t2⟩, t3⟩
      exact ⟨t1, fun e => e.elim t2 t3⟩
  refine sm_w_link A2 _ _ rfl rfl (A2 _ n48).2 (A2 _ b48).2 (fun a21 C1 => ?_)
  refine sm_w_link C1 _ _ rfl rfl (A2 _ rn48).2 (A2 _ rb48).2 (fun a22 C2 => ?_)
  refine pk_loop (σ := Nat → Int32) (fun n i s => wX_collapse_137 post (nI a) (nI b) V F' n (nI i) s a22 a3) (fun i s => sm_A 48 10 s (sm_g fr a b i)) 48 0 a1 (by omega) (fun j hj => A1 j hj) ?_ ?_
  · intro n s hs
    have B1 : sm_A 48 10 s (fun x => sm_s a b (fr x)) := by
      intro j hj
      have := hs j hj
      unfold sm_g at this
      rw [if_pos hj] at this
      exact this
    have fV : ∀ x, sm_bt (V &&& ((1 : Int32) <<< (nI b &&& 31) ^^^ (-1))) x = true ↔ sm_bt V x = true ∧ x ≠ b := by
      intro x
      rw [sm_b_clr, sm_b_one (by omega), decide_eq_true_eq]
    refine pk_le 48 48 (fun _ => nm_e ?_) (fun z => absurd z (by omega))
    refine sm_w_fin (sm_M_congr fF M') B1 C2 A3 (fun x => ?_) (fun x t => bV x ((fV x).mp t).1) (fun w t => bF w ((fF w).mp t).1.1) ?_ (fun a3' I' => sm_w_ones (hp _ _ _ _ _ _ I'))
    · rw [fV x, sm_co_v m.1.2.1 m.1.2.2.2.1 hq, kV x]
    · have c1 := sm_cnt_del (p := sm_P F) (j := h / 3) uh 16 (bF _ uh)
      have c2 := sm_cnt_del (p := fun i => sm_P F i ∧ i ≠ h / 3) (j := ag h / 3) ⟨ur, nf⟩ 16 (bF _ ur)
      have c3 : sm_cnt (sm_P F') 16 = sm_cnt (fun i => (sm_P F i ∧ i ≠ h / 3) ∧ i ≠ ag h / 3) 16 := sm_cnt_congr (fun i _ => fF i)
      have d1 := sm_cnt_del (p := sm_P V) (j := b) vb 10 b10
      have d2 : sm_cnt (sm_P (V &&& ((1 : Int32) <<< (nI b &&& 31) ^^^ (-1)))) 10 = sm_cnt (fun i => sm_P V i ∧ i ≠ b) 10 := sm_cnt_congr (fun i _ => fV i)
      omega
  · intro n i s hi hs hw
    have si := hs i hi
    have gi : sm_g fr a b i i = fr i := by unfold sm_g; rw [if_neg (by omega)]
    rw [gi] at si
    refine pk_le 48 i (fun z => absurd z (by omega)) (fun _ => ⟨pk_in i 48 hi, ?_⟩)
    rw [nI_clamp (by omega), si.1]
    have f10 := si.2
    refine pk_eq (fr i) b (fun e => ⟨pk_in i 48 hi, ?_⟩) (fun ne => ⟨pk_in i 48 hi, pk_in i 48 hi, ?_⟩)
    · exact nm_r (e' := upd s i (nI a)) (by rw [sm_byte a (by omega)]) (nm_r (nI_1 i) (hw _ (sm_g_step hs a10 (by rw [e, sm_s_b]))))
    · exact nm_r (e' := upd s i (nI (fr i))) (by rw [vp_nar_byte, sm_byte _ (by omega)]) (nm_r (nI_1 i) (hw _ (sm_g_step hs f10 (sm_s_n ne))))
end
section
/-! the tetrahedron -/
def sm_E0 : sm_T := fun x y z => (((False ∨ sm_cy 0 1 2 x y z) ∨ sm_cy 0 2 3 x y z) ∨ sm_cy 0 3 1 x y z) ∨ sm_cy 1 3 2 x y z
def sm_cb (a b c x y z : Nat) : Bool := (x == a && y == b && z == c) || (x == b && y == c && z == a) || (x == c && y == a && z == b)
def sm_t0 (x y z : Nat) : Bool := sm_cb 0 1 2 x y z || sm_cb 0 2 3 x y z || sm_cb 0 3 1 x y z || sm_cb 1 3 2 x y z
theorem sm_cb_is (a b c x y z : Nat) : sm_cy a b c x y z ↔ sm_cb a b c x y z = true := by
  unfold sm_cy sm_cb
  simp [and_assoc, or_assoc]
theorem sm_E0_is (x y z : Nat) : sm_E0 x y z ↔ sm_t0 x y z = true := by
  unfold sm_E0 sm_t0
  rw [sm_cb_is, sm_cb_is, sm_cb_is, sm_cb_is]
  simp [or_assoc]
theorem sm_E0_4 {x y z : Nat} (h : sm_E0 x y z) : x < 4 ∧ y < 4 ∧ z < 4 := by
  unfold sm_E0 sm_cy at h
  simp only [false_or] at h
  omega
theorem sm_E0_rot : sm_rot sm_E0 := by
  intro a b c h
  obtain ⟨b1, b2, b3⟩ := sm_E0_4 h
  rw [sm_E0_is] at h ⊢
  exact (by decide +kernel : ∀ a, a < 4 → ∀ b, b < 4 → ∀ c, c < 4 → sm_t0 a b c = true → sm_t0 b c a = true) a b1 b b2 c b3 h
theorem sm_E0_fun : sm_fun sm_E0 := by
  intro a b c c' h h'
  obtain ⟨b1, b2, b3⟩ := sm_E0_4 h
  obtain ⟨_, _, b4⟩ := sm_E0_4 h'
  rw [sm_E0_is] at h h'
  have t := (by decide +kernel : ∀ a, a < 4 → ∀ b, b < 4 → ∀ c, c < 4 → ∀ d, d < 4 → (!(sm_t0 a b c) || !(sm_t0 a b d) || c == d) = true) a b1 b b2 c b3 c' b4
  rw [h, h'] at t
  simpa using t
theorem sm_E0_irr : sm_irr sm_E0 := by
  intro a b c h
  obtain ⟨b1, b2, b3⟩ := sm_E0_4 h
  rw [sm_E0_is] at h
  exact (by decide +kernel : ∀ a, a < 4 → ∀ b, b < 4 → ∀ c, c < 4 → sm_t0 a b c = true → a ≠ b) a b1 b b2 c b3 h
theorem sm_E0_opp : sm_opp sm_E0 := by
  intro a b c h
  obtain ⟨b1, b2, b3⟩ := sm_E0_4 h
  rw [sm_E0_is] at h
  have t := (by decide +kernel : ∀ a, a < 4 → ∀ b, b < 4 → ∀ c, c < 4 → (!(sm_t0 a b c) || (sm_t0 b a 0 || (sm_t0 b a 1 || (sm_t0 b a 2 || sm_t0 b a 3)))) = true) a b1 b b2 c b3
  rw [h] at t
  simp only [Bool.not_true, Bool.false_or, Bool.or_eq_true] at t
  rcases t with t | t | t | t
  · exact ⟨0, (sm_E0_is _ _ _).mpr t⟩
  · exact ⟨1, (sm_E0_is _ _ _).mpr t⟩
  · exact ⟨2, (sm_E0_is _ _ _).mpr t⟩
  · exact ⟨3, (sm_E0_is _ _ _).mpr t⟩
theorem sm_E0_fat : sm_fat sm_E0 := by
  intro a b c d h h'
  obtain ⟨b1, b2, b3⟩ := sm_E0_4 h
  obtain ⟨_, _, b4⟩ := sm_E0_4 h'
  rw [sm_E0_is] at h h'
  have t := (by decide +kernel : ∀ a, a < 4 → ∀ b, b < 4 → ∀ c, c < 4 → ∀ d, d < 4 → (!(sm_t0 a b c) || !(sm_t0 b a d) || !(c == d)) = true) a b1 b b2 c b3 d b4
  rw [h, h'] at t
  simpa using t
theorem sm_ring3 {E : sm_T} {a p q r : Nat} (h1 : E a p q) (h2 : E a q r) (h3 : E a r p) (all : ∀ y z, E a y z → y = p ∨ y = q ∨ y = r) (P : Nat → Prop) (hP : ∀ y z, E a y z → P y → P z) (y z y' z' : Nat) (k : E a y z) (k' : E a y' z') (py : P y) : P y' := by
  have q1 := hP _ _ h1
  have q2 := hP _ _ h2
  have q3 := hP _ _ h3
  have pp : P p := by
    rcases all _ _ k with e | e | e <;> subst e
    · exact py
    · exact q3 (q2 py)
    · exact q3 py
  rcases all _ _ k' with e | e | e <;> subst e
  · exact pp
  · exact q1 pp
  · exact q2 (q1 pp)
theorem sm_E0_ring : sm_ring sm_E0 := by
  intro P a hP y z y' z' k k' py
  have b := (sm_E0_4 k).1
  have ha : a = 0 ∨ a = 1 ∨ a = 2 ∨ a = 3 := by omega
  rcases ha with e | e | e | e <;> subst e
  · exact sm_ring3 (p := 1) (q := 2) (r := 3) ((sm_E0_is _ _ _).mpr rfl) ((sm_E0_is _ _ _).mpr rfl) ((sm_E0_is _ _ _).mpr rfl) (fun y z t => by unfold sm_E0 sm_cy at t; simp only [false_or] at t; omega) P hP y z y' z' k k' py
  · exact sm_ring3 (p := 2) (q := 0) (r := 3) ((sm_E0_is _ _ _).mpr rfl) ((sm_E0_is _ _ _).mpr rfl) ((sm_E0_is _ _ _).mpr rfl) (fun y z t => by unfold sm_E0 sm_cy at t; simp only [false_or] at t; omega) P hP y z y' z' k k' py
  · exact sm_ring3 (p := 0) (q := 1) (r := 3) ((sm_E0_is _ _ _).mpr rfl) ((sm_E0_is _ _ _).mpr rfl) ((sm_E0_is _ _ _).mpr rfl) (fun y z t => by unfold sm_E0 sm_cy at t; simp only [false_or] at t; omega) P hP y z y' z' k k' py
  · exact sm_ring3 (p := 0) (q := 2) (r := 1) ((sm_E0_is _ _ _).mpr rfl) ((sm_E0_is _ _ _).mpr rfl) ((sm_E0_is _ _ _).mpr rfl) (fun y z t => by unfold sm_E0 sm_cy at t; simp only [false_or] at t; omega) P hP y z y' z' k k' py
theorem sm_E0_con : sm_con sm_E0 := by
  intro P hP x y z x' y' z' k k' px
  have b := (sm_E0_4 k).1
  have b' := (sm_E0_4 k').1
  have p1 : P 0 → P 1 := hP 0 1 2 ((sm_E0_is _ _ _).mpr rfl)
  have p2 : P 1 → P 2 := hP 1 2 0 ((sm_E0_is _ _ _).mpr rfl)
  have p3 : P 2 → P 3 := hP 2 3 0 ((sm_E0_is _ _ _).mpr rfl)
  have p4 : P 3 → P 0 := hP 3 0 2 ((sm_E0_is _ _ _).mpr rfl)
  have pp : P 0 := by
    have hx : x = 0 ∨ x = 1 ∨ x = 2 ∨ x = 3 := by omega
    rcases hx with e | e | e | e <;> subst e
    · exact px
    · exact p4 (p3 (p2 px))
    · exact p4 (p3 px)
    · exact p4 px
  have hx : x' = 0 ∨ x' = 1 ∨ x' = 2 ∨ x' = 3 := by omega
  rcases hx with e | e | e | e <;> subst e
  · exact pp
  · exact p1 pp
  · exact p2 (p1 pp)
  · exact p3 (p2 (p1 pp))
theorem sm_E0_ok : sm_ok sm_E0 := ⟨sm_E0_rot, sm_E0_fun, sm_E0_irr, sm_E0_opp, sm_E0_fat, sm_E0_ring, sm_E0_con⟩
def sm_fr0 : Nat → Nat := sm_wr (sm_wr (sm_wr (sm_wr (fun _ => 0) 0 0 1 2) 1 0 2 3) 2 0 3 1) 3 1 3 2
def sm_ag0 : Nat → Nat := sm_lk (sm_lk (sm_lk (sm_lk (sm_lk (sm_lk (fun _ => 0) 0 8) 1 11) 2 3) 4 10) 5 6) 7 9
theorem sm_b15 (q : Nat) : sm_bt 15 q = true ↔ q < 4 := by
  rcases Nat.lt_or_ge q 32 with h | h
  · rw [sm_b_15 q h, decide_eq_true_eq]
  · rw [sm_b_big h]
    exact ⟨fun t => absurd t (by decide), fun t => by omega⟩
theorem sm_M0 : sm_M (sm_P 15) sm_fr0 sm_ag0 sm_E0 := by
  refine ⟨sm_E0_ok, ?_, ?_⟩
  · have R0 : sm_R (fun _ => False) (fun _ => 0) (fun _ _ _ => False) := ⟨fun _ t => t.elim, fun _ _ _ t => t.elim, fun _ _ t => t.elim⟩
    have R1 := sm_ad (f := 0) (a := 0) (b := 1) (c := 2) R0 id (by decide) (by decide) (by decide) (fun _ t => t) (fun _ t => t) (fun _ t => t)
    have R2 := sm_ad (f := 1) (a := 0) (b := 2) (c := 3) R1 (by intro t; simp at t) (by decide) (by decide) (by decide) (fun z t => by simp [sm_cy] at t) (fun z t => by simp [sm_cy] at t) (fun z t => by simp [sm_cy] at t)
    have R3 := sm_ad (f := 2) (a := 0) (b := 3) (c := 1) R2 (by intro t; simp at t) (by decide) (by decide) (by decide) (fun z t => by simp [sm_cy] at t) (fun z t => by simp [sm_cy] at t) (fun z t => by simp [sm_cy] at t)
    have R4 := sm_ad (f := 3) (a := 1) (b := 3) (c := 2) R3 (by intro t; simp at t) (by decide) (by decide) (by decide) (fun z t => by simp [sm_cy] at t) (fun z t => by simp [sm_cy] at t) (fun z t => by simp [sm_cy] at t)
    refine sm_R_congr (fun q => ?_) R4
    show sm_bt 15 q = true ↔ _
    rw [sm_b15]
    simp only [false_or]
    omega
  · have u : ∀ h, h < 12 → sm_P 15 (h / 3) := fun h hh => (sm_b15 _).mpr (by omega)
    have L0 : sm_L (sm_P 15) sm_fr0 (fun _ => 0) (fun _ => False) := fun _ _ t => t.elim
    have L1 := sm_L_lk (x := 0) (y := 8) L0 (u 0 (by omega)) (u 8 (by omega)) (by decide) (by decide)
    have L2 := sm_L_lk (x := 1) (y := 11) L1 (u 1 (by omega)) (u 11 (by omega)) (by decide) (by decide)
    have L3 := sm_L_lk (x := 2) (y := 3) L2 (u 2 (by omega)) (u 3 (by omega)) (by decide) (by decide)
    have L4 := sm_L_lk (x := 4) (y := 10) L3 (u 4 (by omega)) (u 10 (by omega)) (by decide) (by decide)
    have L5 := sm_L_lk (x := 5) (y := 6) L4 (u 5 (by omega)) (u 6 (by omega)) (by decide) (by decide)
    have L6 := sm_L_lk (x := 7) (y := 9) L5 (u 7 (by omega)) (u 9 (by omega)) (by decide) (by decide)
    refine sm_L_all L6 (fun x ux => ?_)
    have := (sm_b15 _).mp ux
    omega
theorem sm_w_init {post : St1 → Prop} (hp : ∀ V F a1 a2 a3, sm_I V F a1 a2 a3 → post (V, F, a1, a2, a3)) : wpX_init post 3 106 (0, 0) := by
  have Z1 : sm_A 48 10 (fun _ => 0) (fun _ => 0) := fun h _ => ⟨rfl, Nat.zero_lt_succ 9⟩
  have Z2 : sm_A 48 48 (fun _ => 0) (fun _ => 0) := fun h _ => ⟨rfl, Nat.zero_lt_succ 47⟩
  have Z3 : sm_A 10 48 (fun _ => 0) (fun _ => 0) := fun h _ => ⟨rfl, Nat.zero_lt_succ 47⟩
  unfold wpX_init
  refine ⟨by omega, by omega, by omega, by omega, by omega, by omega, ?_⟩
  refine sm_w_write (f := 0) (a := 0) (b := 1) (c := 2) Z1 (by omega) (by omega) (by omega) (by omega) (fun a11 B1 => ?_)
  refine sm_w_write (f := 1) (a := 0) (b := 2) (c := 3) B1 (by omega) (by omega) (by omega) (by omega) (fun a12 B2 => ?_)
  refine sm_w_write (f := 2) (a := 0) (b := 3) (c := 1) B2 (by omega) (by omega) (by omega) (by omega) (fun a13 B3 => ?_)
  refine sm_w_write (f := 3) (a := 1) (b := 3) (c := 2) B3 (by omega) (by omega) (by omega) (by omega) (fun a14 B4 => ?_)
  refine sm_w_link Z2 0 8 rfl rfl (by omega) (by omega) (fun a21 C1 => ?_)
  refine sm_w_link C1 1 11 rfl rfl (by omega) (by omega) (fun a22 C2 => ?_)
  refine sm_w_link C2 2 3 rfl rfl (by omega) (by omega) (fun a23 C3 => ?_)
  refine sm_w_link C3 4 10 rfl rfl (by omega) (by omega) (fun a24 C4 => ?_)
  refine sm_w_link C4 5 6 rfl rfl (by omega) (by omega) (fun a25 C5 => ?_)
  refine sm_w_link C5 7 9 rfl rfl (by omega) (by omega) (fun a26 C6 => ?_)
  have c4 : ∀ n, 4 ≤ n → sm_cnt (sm_P 15) n = 4 := fun n hn => by
    rw [sm_cnt_ext hn (fun i t => (sm_b15 i).mp t), sm_cnt_all (fun i hi => (sm_b15 i).mpr hi)]
  refine sm_w_fin sm_M0 B4 C6 Z3 (fun x => ?_) (fun x t => by have := (sm_b15 x).mp t; omega) (fun x t => by have := (sm_b15 x).mp t; omega) (by rw [c4 16 (by omega), c4 10 (by omega)]) (fun a3' I' => hp _ _ _ _ _ I')
  rw [sm_b15]
  constructor
  · intro t
    have hx : x = 0 ∨ x = 1 ∨ x = 2 ∨ x = 3 := by omega
    rcases hx with e | e | e | e <;> subst e
    · exact ⟨1, 2, (sm_E0_is _ _ _).mpr rfl⟩
    · exact ⟨2, 0, (sm_E0_is _ _ _).mpr rfl⟩
    · exact ⟨0, 1, (sm_E0_is _ _ _).mpr rfl⟩
    · exact ⟨0, 2, (sm_E0_is _ _ _).mpr rfl⟩
  · rintro ⟨y, z, t⟩
    exact (sm_E0_4 t).1
end
section
/-! the law's look at one vertex -/
theorem sm_three_n {V F : Int32} {a1 a2 a3 : Nat → Int32} {fr ag ou : Nat → Nat} {E : sm_T} (k : sm_K V F a1 a2 a3 fr ag ou E) {a : Nat} (va : sm_bt V a = true) : 3 ≤ sm_cnt (fun y => ∃ z, E a y z) 10 := by
  have hE10 := sm_K_b k
  obtain ⟨h1, h2, h3, h4, h5, h6, h7⟩ := k.1.1
  obtain ⟨b, c, e⟩ := (k.2.2.2.2.1 a).mp va
  obtain ⟨d, e'⟩ := h4 _ _ _ e
  obtain ⟨⟨q1, q2, q3⟩, ⟨q4, q5, q6⟩, n1, n2, n3, n4, n5, n6⟩ := sm_quad_of h1 h3 h5 e e'
  obtain ⟨w, hw⟩ := h4 _ _ _ q3
  rw [sm_cnt_del (p := fun y => ∃ z, E a y z) (j := b) ⟨_, q1⟩ 10 (hE10 _ _ _ q2), sm_cnt_del (p := fun y => (∃ z, E a y z) ∧ y ≠ b) (j := c) ⟨⟨_, hw⟩, n2.symm⟩ 10 (hE10 _ _ _ q3), sm_cnt_del (p := fun y => ((∃ z, E a y z) ∧ y ≠ b) ∧ y ≠ c) (j := d) ⟨⟨⟨_, q5⟩, n5.symm⟩, n6.symm⟩ 10 (hE10 _ _ _ q6)]
  omega
/-- there and back -/
theorem sm_w_ar2 {V F : Int32} {a1 a2 a3 : Nat → Int32} {fr ag ou : Nat → Nat} {E : sm_T} (k : sm_K V F a1 a2 a3 fr ag ou E) {a b : Nat} {p2 : Int32} (hab : ∃ z, E a b z) (hk : ∃ t, t ≤ 20 ∧ (p2 = nI t ∨ p2 = -nI t)) :
    ∃ y, y < 10 ∧ (∀ post : Int32 → Prop, post (nI y) → wpX_around post (V, F, a1, a2, a3) (nI a) (nI b) p2) ∧ (∀ post : Int32 → Prop, post (nI b) → wpX_around post (V, F, a1, a2, a3) (nI a) (nI y) (-p2)) := by
  have hE10 := sm_K_b k
  have m := k.1
  obtain ⟨z, ez⟩ := hab
  have a10 := hE10 _ _ _ ez
  have b10 := hE10 _ _ _ (m.1.1 _ _ _ ez)
  obtain ⟨h, uh, e1, e2, e3⟩ := m.2.1.2.1 _ _ _ ez
  obtain ⟨t, ht, hk⟩ := hk
  rcases hk with rfl | rfl
  · obtain ⟨u1, u2⟩ := sm_it_ok m uh t
    have Et := m.2.1.1 _ u1
    rw [u2, e1] at Et
    have y10 := hE10 _ _ _ (m.1.1 _ _ _ Et)
    refine ⟨fr (sm_nx (sm_it ag t h)), y10, fun post hp => ?_, fun post hp => ?_⟩
    · refine sm_w_ar_p k (by omega) (by omega) ht ⟨_, ez⟩ (fun g ug g1 g2 => ?_)
      rw [m.2.1.2.2 g h ug uh (g1.trans e1.symm) (g2.trans e2.symm)]
      exact hp
    · refine sm_w_ar_n k (by omega) (by omega) ht ⟨_, Et⟩ (fun g ug g1 g2 => ?_)
      rw [m.2.1.2.2 g _ ug u1 (g1.trans (u2.trans e1).symm) g2, sm_ib_it m uh, e2]
      exact hp
  · obtain ⟨u1, u2⟩ := sm_ib_ok m uh t
    have Et := m.2.1.1 _ u1
    rw [u2, e1] at Et
    have y10 := hE10 _ _ _ (m.1.1 _ _ _ Et)
    refine ⟨fr (sm_nx (sm_ib ag t h)), y10, fun post hp => ?_, fun post hp => ?_⟩
    · refine sm_w_ar_n k (by omega) (by omega) ht ⟨_, ez⟩ (fun g ug g1 g2 => ?_)
      rw [m.2.1.2.2 g h ug uh (g1.trans e1.symm) (g2.trans e2.symm)]
      exact hp
    · rw [show - -nI t = nI t from Int32.neg_neg]
      refine sm_w_ar_p k (by omega) (by omega) ht ⟨_, Et⟩ (fun g ug g1 g2 => ?_)
      rw [m.2.1.2.2 g _ ug u1 (g1.trans (u2.trans e1).symm) g2, sm_it_ib m uh, e2]
      exact hp
theorem sm_w_v72 {post J : Int32 → Prop} {V F : Int32} {a1 a2 a3 : Nat → Int32} {fr ag ou : Nat → Nat} {E : sm_T} (k : sm_K V F a1 a2 a3 fr ag ou E) {a b : Nat} {p2 x3 : Int32} (ha : a < 10) (hb : b < 10) (hk : ∃ t, t ≤ 20 ∧ (p2 = nI t ∨ p2 = -nI t))
    (hab : ∃ z, E a b z) (hJ : J (nI (b + 1))) : wL_vertex_72 post J (nI a) p2 x3 (nI b) 1 V F a1 a2 a3 := by
  have m := k.1
  have hE10 := sm_K_b k
  unfold wL_vertex_72
  refine sm_w_opp k (by omega) (by omega) (fun c c10 ec => ?_) (fun t => absurd hab.choose_spec (t _))
  refine sm_w_joined k (by omega) (fun B hB => sm_br1 (by omega) (fun _ => ?_) (fun t => ?_))
  · unfold wL_vertex_104
    refine br_t rfl (br_f (nI_pos (by omega)) ?_)
    unfold wL_vertex_117
    refine br_t rfl (sm_w_dist k (by omega) (by omega) (fun r hr => br_t (hr.mpr hab) ?_))
    unfold wL_vertex_138
    refine br_t rfl (br_f (by decide) ?_)
    obtain ⟨y, y10, go, back⟩ := sm_w_ar2 k hab hk
    refine go _ ?_
    refine sm_w_face k (by omega) (by omega) (by omega) (fun _ => br_f (by decide) ?_) (fun t => absurd ec t)
    refine sm_w_face k (by omega) (by omega) (by omega) (fun _ => br_f (by decide) ?_) (fun t => absurd (m.1.1 _ _ _ ec) t)
    refine sm_w_face k (by omega) (by omega) (by omega) (fun t => absurd rfl (m.1.2.2.2.2.1 _ _ _ _ (m.1.1 _ _ _ (m.1.1 _ _ _ ec)) t)) (fun _ => br_t rfl ?_)
    refine sm_w_ar_p (t := 1) k (by omega) (by omega) (by omega) hab (fun h uh g1 g2 => br_t ?_ ?_)
    · have q := sm_it_E m uh 0
      rw [g1] at q
      have q' : E a (fr (sm_nx h)) (fr (sm_nx (sm_it ag 1 h))) := q
      rw [g2] at q'
      rw [m.1.2.1 _ _ _ _ q' ec]
    · refine sm_w_ar_p (t := 0) k (by omega) (by omega) (by omega) hab (fun h uh g1 g2 => br_t (by show nI (fr (sm_nx h)) = _; rw [g2]) (back _ (br_t rfl ?_)))
      unfold wL_vertex_241
      exact br_f (by decide) (nm_r (nI_1 b) hJ)
  · obtain ⟨z, ez⟩ := hab
    rw [(hB a).mpr (m.1.2.2.2.1 _ _ _ ez)] at t
    exact absurd t (by decide)
theorem sm_w_v72n {post J : Int32 → Prop} {V F : Int32} {a1 a2 a3 : Nat → Int32} {fr ag ou : Nat → Nat} {E : sm_T} (k : sm_K V F a1 a2 a3 fr ag ou E) {a b : Nat} {p2 x3 : Int32} (ha : a < 10) (hb : b < 10)
    (hab : ¬ ∃ z, E a b z) (hJ : J (nI (b + 1))) : wL_vertex_72 post J (nI a) p2 x3 (nI b) 0 V F a1 a2 a3 := by
  have m := k.1
  unfold wL_vertex_72
  refine sm_w_opp k (by omega) (by omega) (fun c c10 ec => absurd ⟨_, ec⟩ hab) (fun _ => ?_)
  refine sm_w_joined k (by omega) (fun B hB => sm_br1 (by omega) (fun t => ?_) (fun t => ?_))
  · obtain ⟨z, ez⟩ := (hB a).mp t
    exact absurd (m.1.2.2.2.1 _ _ _ ez) hab
  · unfold wL_vertex_104
    refine br_t rfl (br_t (by decide) ?_)
    unfold wL_vertex_117
    refine br_t rfl (sm_w_dist k (by omega) (by omega) (fun r hr => br_f (fun q => hab (hr.mp q)) ?_))
    unfold wL_vertex_138
    exact br_t rfl (br_t rfl (nm_r (nI_1 b) hJ))
theorem sm_w_vertex {post : Int32 → Prop} {V F : Int32} {a1 a2 a3 : Nat → Int32} {fr ag ou : Nat → Nat} {E : sm_T} (k : sm_K V F a1 a2 a3 fr ag ou E) {a : Nat} {p2 : Int32} (ha : a < 10) (hk : ∃ t, t ≤ 20 ∧ (p2 = nI t ∨ p2 = -nI t))
    (hp : post 1) : wpL_vertex post (V, F, a1, a2, a3) (nI a) p2 := by
  have kV := k.2.2.2.2.1
  unfold wpL_vertex
  refine sm_w_joined k (by omega) (fun J hJ => ?_)
  have main : ∃ n, wL_vertex_50 post (nI a) p2 J V F a1 a2 a3 n 0 := by
    refine pk_loop (σ := Unit) (fun n i _ => wL_vertex_50 post (nI a) p2 J V F a1 a2 a3 n (nI i)) (fun _ _ => True) 10 0 () (by omega) trivial ?_ ?_
    · intro n _ _
      exact pk_le 10 10 (fun _ => hp) (fun z => absurd z (by omega))
    · intro n i _ hi _ hw
      refine pk_le 10 i (fun z => absurd z (by omega)) (fun _ => sm_br1 (by omega) (fun t => ?_) (fun t => ?_))
      · exact sm_w_v72 k ha hi hk ((hJ i).mp t) (hw () trivial)
      · exact sm_w_v72n k ha hi (fun q => by rw [(hJ i).mpr q] at t; exact absurd t (by decide)) (hw () trivial)
  refine sm_br1 (x := V) (i := a) (by omega) (fun va => ?_) (fun va => ?_)
  · unfold wL_vertex_23
    refine br_f (by decide) (sm_w_lones ?_)
    have c := sm_three_n k va
    have e : sm_cnt (sm_P J) 10 = sm_cnt (fun y => ∃ z, E a y z) 10 := sm_cnt_congr (fun y _ => hJ y)
    have l := sm_cnt_le (sm_P J) 10
    exact pk_le 3 (sm_cnt (sm_P J) 10) (fun _ => main) (fun z => absurd z (by omega))
  · unfold wL_vertex_23
    refine br_t rfl (br_t (sm_z (fun i t => ?_)) main)
    obtain ⟨z, ez⟩ := (hJ i).mp t
    rw [(kV a).mpr ⟨_, _, ez⟩] at va
    exact absurd va (by decide)
/-! the call of a turn -/
theorem sm_w_low {post : Int32 → Prop} {x : Int32} (hp : ∀ v, v < 10 → post (nI v)) : wpL_lowest post () x := by
  unfold wpL_lowest
  refine pk_loop (σ := Unit) (fun n i _ => wL_lowest_2 post x n (nI i)) (fun _ _ => True) 9 0 () (by omega) trivial ?_ ?_
  · intro n _ _
    exact pk_le 9 9 (fun _ => hp 9 (by omega)) (fun z => absurd z (by omega))
  · intro n i _ hi _ hw
    exact pk_le 9 i (fun z => absurd z (by omega)) (fun _ => sm_br0 (by omega) (fun _ => nm_r (nI_1 i) (hw () trivial)) (fun _ => hp i (by omega)))
theorem sm_w_c45 {post : Int32 → St1 → Prop} {V F : Int32} {a1 a2 a3 : Nat → Int32} {fr ag ou : Nat → Nat} {E : sm_T} (k : sm_K V F a1 a2 a3 fr ag ou E) {a b : Nat} {w : Int32} (ha : a < 16) (hb : b < 16)
    (hp : ∀ r V' F' a1' a2' a3', sm_I V' F' a1' a2' a3' → (7 ≤ w → ¬ 13 ≤ w → V' = V ∧ F' = F) → post r (V', F', a1', a2', a3')) : wL_call_45 post w (nI a) (nI b) V F a1 a2 a3 := by
  unfold wL_call_45
  refine br_c (fun w4 => br_c (fun w7 => br_c (fun w13 => ?_) (fun w13 => ?_)) (fun w7 => ?_)) (fun w4 => ?_)
  · exact sm_w_co k (by omega) (by omega) (fun r V' F' a1' a2' a3' I' => hp r V' F' a1' a2' a3' I' (fun _ q => absurd w13 q))
  · exact sm_w_fl k (by omega) (by omega) (fun r a1' a2' a3' I' => hp r V F a1' a2' a3' I' (fun _ _ => ⟨rfl, rfl⟩))
  · exact sm_w_se k (by omega) (by omega) (fun r V' F' a1' a2' a3' I' => hp r V' F' a1' a2' a3' I' (fun q _ => absurd q w7))
  · have w7 : ¬ 7 ≤ w := fun q => w4 (Int32.le_trans (by decide) q)
    have fin : ∀ r V' F' a1' a2' a3', sm_I V' F' a1' a2' a3' → post r (V', F', a1', a2', a3') := fun r V' F' a1' a2' a3' I' => hp r V' F' a1' a2' a3' I' (fun q _ => absurd q w7)
    exact sm_w_opp k (by omega) (by omega) (fun c c10 ec => sm_w_sf k (by omega) (by omega) (Or.inl ⟨c, c10, ec, rfl⟩) fin) (fun t => sm_w_sf k (by omega) (by omega) (Or.inr t) fin)
theorem sm_w_call {post : Int32 → St1 → Prop} {V F : Int32} {a1 a2 a3 : Nat → Int32} {fr ag ou : Nat → Nat} {E : sm_T} (k : sm_K V F a1 a2 a3 fr ag ou E) {w x : Int32}
    (hp : ∀ r V' F' a1' a2' a3', sm_I V' F' a1' a2' a3' → (7 ≤ w → ¬ 13 ≤ w → V' = V ∧ F' = F) → post r (V', F', a1', a2', a3')) : wpL_call post (V, F, a1, a2, a3) w x := by
  obtain ⟨a, ha, ea⟩ := pk_andE x (m := 15) 4 (by decide)
  obtain ⟨b, hb, eb⟩ := pk_andE (x >>> ((4 : Int32) &&& 31)) (m := 15) 4 (by decide)
  unfold wpL_call
  refine nm_r ea (nm_r eb (sm_w_joined k (by omega) (fun J hJ => ?_)))
  refine br_c (fun _ => ?_) (fun _ => sm_br0 (by omega) (fun _ => ?_) (fun _ => ?_))
  · exact sm_w_c45 k ha hb hp
  · exact sm_w_low (fun v v10 => sm_w_c45 k ha (by omega) hp)
  · exact sm_w_c45 k ha hb hp
end
section
/-! the law -/
theorem sm_k15 (x : Int32) : ∃ t, t ≤ 20 ∧ ((x &&& 31) - 15 = nI t ∨ (x &&& 31) - 15 = -nI t) := by
  obtain ⟨j, hj, e⟩ := pk_andE x (m := 31) 5 (by decide)
  rw [e]
  rcases Nat.lt_or_ge j 15 with q | q
  · refine ⟨15 - j, by omega, Or.inr ?_⟩
    apply Int32.toInt_inj.mp
    rw [sb_negT (by omega)]
    show (nI j - nI 15).toInt = _
    rw [pk_sub_toInt (by omega) (by omega)]
    omega
  · exact ⟨j - 15, by omega, Or.inl (pk_sub (b := 15) q)⟩
theorem sm_dg {V F : Int32} {a1 a2 a3 : Nat → Int32} {fr ag ou : Nat → Nat} {E : sm_T} (k : sm_K V F a1 a2 a3 fr ag ou E) : sm_sum (fun m => m * sm_cnt (fun v => sm_bt V v = true ∧ sm_cnt (fun y => ∃ z, E v y z) 10 = m) 10) 10 = 3 * sm_cnt (sm_P F) 16 := by
  have hE10 := sm_K_b k
  have kV := k.2.2.2.2.1
  rw [sm_degsum (fun v => sm_bt V v = true) (fun v => sm_cnt (fun y => ∃ z, E v y z) 10) 10 (fun v hv _ => ?_) (fun v _ nv => ?_)]
  · exact sm_edges k.1 k.2.2.2.2.2.2.1 hE10
  · have c := sm_cnt_ins (p := fun y => ∃ z, E v y z) (q := fun y => (∃ z, E v y z) ∨ y = v) (j := v) (n := 10) hv (fun ⟨z, t⟩ => k.1.1.2.2.1 _ _ _ t rfl) (fun i _ => Iff.rfl)
    have l := sm_cnt_le (fun y => (∃ z, E v y z) ∨ y = v) 10
    show sm_cnt (fun y => ∃ z, E v y z) 10 < 10
    omega
  · exact sm_cnt_none (fun i _ ⟨z, t⟩ => nv ((kV v).mpr ⟨_, _, t⟩))
theorem sm_w_135 {post : Int32 → Prop} {L : Nat} {xs : Nat → Int32} {J : Int32 → Int32 → Int32 → (Nat → Int32) → (Nat → Int32) → (Nat → Int32) → Prop} {x4 : Int32} {kc ks i : Nat} {V F : Int32} {a1 a2 a3 : Nat → Int32} {fr ag ou : Nat → Nat} {E : sm_T} (k : sm_K V F a1 a2 a3 fr ag ou E)
    (hJ : J (nI (i + 1)) V F a1 a2 a3) : wL_law_135 post L xs J (nI i) x4 V (nI (3 * sm_cnt (sm_P F) 16)) kc ks V F a1 a2 a3 := by
  have eu := k.2.2.2.2.2.2.2.1
  have lF := sm_cnt_le (sm_P F) 16
  have lV := sm_cnt_le (sm_P V) 10
  have e3 : 3 * nI (sm_cnt (sm_P F) 16) = nI (3 * sm_cnt (sm_P F) 16) := pk_mul 3 _
  unfold wL_law_135
  refine sm_w_faces (sm_w_lones (br_t ?_ (sm_w_faces (br_t e3.symm (sm_w_flippable k (fun c hc => sm_w_faces ⟨by decide, ?_⟩))))))
  · rw [show 2 * nI (sm_cnt (sm_P V) 10) = nI (2 * sm_cnt (sm_P V) 10) from pk_mul 2 _, show nI (2 * sm_cnt (sm_P V) 10) - 4 = nI (2 * sm_cnt (sm_P V) 10 - 4) from pk_sub (b := 4) (by omega)]
    congr 1
    omega
  · have half := sm_half k.1 k.2.2.2.2.2.2.1
    rw [e3, show nI (3 * sm_cnt (sm_P F) 16) / 2 = nI (3 * sm_cnt (sm_P F) 16 / 2) from pk_div (d := 2) (by omega) (by decide) (by decide)]
    refine br_f (nI_nlt (by omega) (by omega)) ⟨by decide, ?_⟩
    obtain ⟨y, hy, ey⟩ := pk_andE (x4 >>> ((8 : Int32) &&& 31)) (m := 15) 4 (by decide)
    rw [ey, show nI y - nI y / 10 * 10 = nI (y % 10) from pk_rem (d := 10) (by omega) (by decide) (by decide)]
    exact sm_w_vertex k (by omega) (sm_k15 _) (br_f (by decide) (nm_r (nI_1 i) hJ))
theorem sm_w_63 {post : Int32 → Prop} {L : Nat} {xs : Nat → Int32} {J : Int32 → Int32 → Int32 → (Nat → Int32) → (Nat → Int32) → (Nat → Int32) → Prop} {x3 x4 x5 x7 : Int32} {c kc ks i : Nat} {V F : Int32} {a1 a2 a3 : Nat → Int32} (hI : sm_I V F a1 a2 a3)
    (hs : 7 ≤ x3 → ¬ 13 ≤ x3 → V = x5 ∧ nI (sm_cnt (sm_P F) 16) = nI c)
    (hJ : J (nI (i + 1)) V F a1 a2 a3) : ∃ n, wL_law_63 post L xs J (nI i) x3 x4 x5 (nI c) x7 V kc ks V F a1 a2 a3 n 0 0 := by
  obtain ⟨fr, ag, ou, E, k⟩ := hI
  have l135 : ∀ z : Int32, z = nI (3 * sm_cnt (sm_P F) 16) → wL_law_135 post L xs J (nI i) x4 V z kc ks V F a1 a2 a3 := fun z e => by
    rw [e]
    exact sm_w_135 k hJ
  have l118 : ∀ z : Int32, z = nI (3 * sm_cnt (sm_P F) 16) → wL_law_118 post L xs J (nI i) x4 x7 V z kc ks V F a1 a2 a3 := fun z e => by
    unfold wL_law_118 wL_law_123
    exact br_c (fun _ => l135 z e) (fun _ => br_f (by decide) (l135 z e))
  refine pk_loop (σ := Nat) (fun n j s => wL_law_63 post L xs J (nI i) x3 x4 x5 (nI c) x7 V kc ks V F a1 a2 a3 n (nI s) (nI j)) (fun j s => s = sm_sum (fun m => m * sm_cnt (fun v => sm_bt V v = true ∧ sm_cnt (fun y => ∃ z, E v y z) 10 = m) 10) j) 10 0 0 (by omega) rfl ?_ ?_
  · intro n s es
    rw [sm_dg k] at es
    have l := l118 (nI s) (by rw [es])
    refine pk_le 10 10 (fun _ => br_c (fun _ => l) (fun g7 => br_c (fun _ => l) (fun g13 => ?_))) (fun z => absurd z (by omega))
    have g7' : 7 ≤ x3 := by
      rw [Int32.lt_iff_toInt_lt] at g7
      rw [Int32.le_iff_toInt_le]
      omega
    obtain ⟨h1, h2⟩ := hs g7' g13
    exact br_t h1 (sm_w_faces (br_t h2 l))
  · intro n j s hj es hw
    refine pk_le 10 j (fun z => absurd z (by omega)) (fun _ => sm_w_deg k hj (nm_r ?_ (nm_r (nI_1 j) (hw _ rfl))))
    rw [pk_mul, nI_add, es]
    rfl
theorem sm_w_vs {post : Int32 → Prop} {V F : Int32} {a1 a2 a3 : Nat → Int32} (hp : post V) : wpX_vertices post (V, F, a1, a2, a3) := hp
theorem i_vc (xs : Nat → Int32) (L : Nat) (hL : L ≤ 260) : wpL_law (fun r => r = 1) L xs := by
  unfold wpL_law
  refine ⟨3, 106, by omega, by omega, sm_w_init (fun V F a1 a2 a3 hI => ?_)⟩
  refine pk_loop (σ := Int32 × Int32 × (Nat → Int32) × (Nat → Int32) × (Nat → Int32)) (fun n i s => wL_law_10 (fun r => r = 1) L xs (1 + 3) (5 + 106) n (nI i) s.1 s.2.1 s.2.2.1 s.2.2.2.1 s.2.2.2.2) (fun _ s => sm_I s.1 s.2.1 s.2.2.1 s.2.2.2.1 s.2.2.2.2) L 0 (V, F, a1, a2, a3) (by omega) hI ?_ ?_
  · rintro n ⟨V, F, a1, a2, a3⟩ _
    exact pk_le L L (fun _ => rfl) (fun z => absurd z (by omega))
  · rintro n i ⟨V, F, a1, a2, a3⟩ hi ⟨fr, ag, ou, E, k⟩ hw
    have hw' : ∀ V F a1 a2 a3, sm_I V F a1 a2 a3 → wL_law_10 (fun r => r = 1) L xs (1 + 3) (5 + 106) n (nI (i + 1)) V F a1 a2 a3 := fun V F a1 a2 a3 h => hw (V, F, a1, a2, a3) h
    refine pk_le L i (fun z => absurd z (by omega)) (fun _ => ⟨pk_in i L hi, nm_e ⟨pk_in i L hi, nm_e ?_⟩⟩)
    refine sm_w_vs (V := V) (F := F) (a1 := a1) (a2 := a2) (a3 := a3) (sm_w_faces (sm_w_call k (fun r V' F' a1' a2' a3' I' same => ?_)))
    refine sm_w_vs (V := V') (F := F') (a1 := a1') (a2 := a2') (a3 := a3') (sm_w_63 I' ?_ (hw' _ _ _ _ _ I'))
    intro g7 g13
    obtain ⟨e1, e2⟩ := same g7 g13
    rw [e1, e2]
    exact ⟨rfl, rfl⟩
end
