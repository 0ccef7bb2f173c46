section
/-- one if it holds, else nought -/
noncomputable def sm_i (P : Prop) : Nat := @ite Nat P (Classical.propDecidable P) 1 0
theorem sm_i1 {P : Prop} (h : P) : sm_i P = 1 := by
  unfold sm_i
  exact if_pos h
theorem sm_i0 {P : Prop} (h : ¬ P) : sm_i P = 0 := by
  unfold sm_i
  exact if_neg h
theorem sm_ib (P : Prop) : sm_i P ≤ 1 := by
  by_cases hp : P
  · rw [sm_i1 hp]; exact Nat.le_refl 1
  · rw [sm_i0 hp]; exact Nat.zero_le _
theorem sm_ile {P Q : Prop} (h : P → Q) : sm_i P ≤ sm_i Q := by
  by_cases hp : P
  · rw [sm_i1 hp, sm_i1 (h hp)]; exact Nat.le_refl 1
  · rw [sm_i0 hp]; exact Nat.zero_le _
theorem sm_icg {P Q : Prop} (h : P ↔ Q) : sm_i P = sm_i Q := by
  rw [propext h]
theorem sm_iinv {P : Prop} (h : sm_i P = 1) : P := by
  by_cases hp : P
  · exact hp
  · rw [sm_i0 hp] at h; omega
/-- the sum of f below n -/
def sm_s (f : Nat → Nat) : Nat → Nat
  | 0 => 0
  | n + 1 => sm_s f n + f n
theorem sm_sc {f g : Nat → Nat} : ∀ n, (∀ i, i < n → f i = g i) → sm_s f n = sm_s g n := by
  intro n
  induction n with
  | zero => intro _; rfl
  | succ n ih =>
    intro h
    show sm_s f n + f n = sm_s g n + g n
    rw [ih (fun i hi => h i (by omega)), h n (by omega)]
theorem sm_sl {f g : Nat → Nat} : ∀ n, (∀ i, i < n → f i ≤ g i) → sm_s f n ≤ sm_s g n := by
  intro n
  induction n with
  | zero => intro _; exact Nat.le_refl _
  | succ n ih =>
    intro h
    show sm_s f n + f n ≤ sm_s g n + g n
    have h1 := ih (fun i hi => h i (by omega))
    have h2 := h n (by omega)
    omega
theorem sm_se {f g : Nat → Nat} : ∀ n, (∀ i, i < n → f i ≤ g i) → sm_s g n ≤ sm_s f n → ∀ i, i < n → f i = g i := by
  intro n
  induction n with
  | zero => intro _ _ i hi; omega
  | succ n ih =>
    intro h e i hi
    have e' : sm_s g n + g n ≤ sm_s f n + f n := e
    have h1 := sm_sl n (fun i hi => h i (by omega))
    have h2 := h n (by omega)
    by_cases hn : i = n
    · subst hn; omega
    · exact ih (fun i hi => h i (by omega)) (by omega) i (by omega)
theorem sm_sa (f g : Nat → Nat) : ∀ n, sm_s (fun i => f i + g i) n = sm_s f n + sm_s g n := by
  intro n
  induction n with
  | zero => rfl
  | succ n ih =>
    show sm_s (fun i => f i + g i) n + (f n + g n) = (sm_s f n + f n) + (sm_s g n + g n)
    rw [ih]; omega
theorem sm_s0 {f : Nat → Nat} : ∀ n, (∀ i, i < n → f i = 0) → sm_s f n = 0 := by
  intro n
  induction n with
  | zero => intro _; rfl
  | succ n ih =>
    intro h
    show sm_s f n + f n = 0
    rw [ih (fun i hi => h i (by omega)), h n (by omega)]
theorem sm_s1 {f g : Nat → Nat} {k : Nat} : ∀ n, k < n → (∀ i, i < n → i ≠ k → f i = g i) → sm_s f n + g k = sm_s g n + f k := by
  intro n
  induction n with
  | zero => intro hk; omega
  | succ n ih =>
    intro hk h
    show sm_s f n + f n + g k = sm_s g n + g n + f k
    by_cases hn : k = n
    · subst hn
      rw [sm_sc (f := f) (g := g) k (fun i hi => h i (by omega) (by omega))]; omega
    · have h1 := ih (by omega) (fun i hi hne => h i (by omega) hne)
      have h2 := h n (by omega) (fun z => hn z.symm)
      omega
theorem sm_s8 {f : Nat → Nat} {k : Nat} : ∀ n, k < n → f k ≤ sm_s f n := by
  intro n
  induction n with
  | zero => intro hk; omega
  | succ n ih =>
    intro hk
    show f k ≤ sm_s f n + f n
    by_cases hn : k = n
    · subst hn; omega
    · have := ih (by omega); omega
/-- how many of the eight sit at s -/
noncomputable def sm_ld (p : Nat → Nat) (s : Nat) : Nat := sm_s (fun i => sm_i (p i = s)) 8
/-- the window of i lies in Q -/
def sm_w (lo hi : Nat → Nat) (i : Nat) (Q : Nat → Prop) : Prop := ∀ s, lo i ≤ s → s ≤ hi i → Q s
/-- how many placed ones have their window in Q -/
noncomputable def sm_c (lo hi p : Nat → Nat) (Q : Nat → Prop) : Nat := sm_s (fun i => sm_i (p i < 12 ∧ sm_w lo hi i Q)) 8
/-- the room of Q -/
noncomputable def sm_r (rm : Nat → Nat) (Q : Nat → Prop) : Nat := sm_s (fun s => sm_i (Q s) * rm s) 12
/-- a placement that fits -/
def sm_M (lo hi rm p : Nat → Nat) : Prop := (∀ i, i < 8 → p i < 12 → lo i ≤ p i ∧ p i ≤ hi i) ∧ (∀ s, s < 12 → sm_ld p s ≤ rm s)
/-- Q is closed under the moves of p -/
def sm_K (lo hi p : Nat → Nat) (Q : Nat → Prop) : Prop := ∀ i, i < 8 → p i < 12 → Q (p i) → sm_w lo hi i Q
theorem sm_sw1 (x : Nat) (Q : Nat → Prop) : sm_s (fun s => sm_i (Q s) * sm_i (x = s)) 12 = sm_i (x < 12 ∧ Q x) := by
  by_cases hx : x < 12
  · have h := sm_s1 (f := fun s => sm_i (Q s) * sm_i (x = s)) (g := fun _ => 0) (k := x) 12 hx (fun i hi hne => by
      show sm_i (Q i) * sm_i (x = i) = 0
      rw [sm_i0 (P := x = i) (fun z => hne z.symm)]; rfl)
    have h0 : sm_s (fun _ => 0) 12 = 0 := sm_s0 12 (fun _ _ => rfl)
    have h2 : sm_s (fun s => sm_i (Q s) * sm_i (x = s)) 12 + 0 = sm_s (fun _ => 0) 12 + sm_i (Q x) * sm_i (x = x) := h
    rw [h0, sm_i1 (P := x = x) rfl] at h2
    rw [sm_icg (show (x < 12 ∧ Q x) ↔ Q x from ⟨fun z => z.2, fun z => ⟨hx, z⟩⟩)]
    omega
  · rw [sm_i0 (P := x < 12 ∧ Q x) (fun z => hx z.1)]
    refine sm_s0 12 (fun i hi => ?_)
    show sm_i (Q i) * sm_i (x = i) = 0
    rw [sm_i0 (P := x = i) (fun z => hx (by omega))]; rfl
theorem sm_sw (p : Nat → Nat) (Q : Nat → Prop) : ∀ n, sm_s (fun i => sm_i (p i < 12 ∧ Q (p i))) n = sm_s (fun s => sm_i (Q s) * sm_s (fun i => sm_i (p i = s)) n) 12 := by
  intro n
  induction n with
  | zero => exact (sm_s0 12 (fun s _ => Nat.mul_zero _)).symm
  | succ n ih =>
    show sm_s (fun i => sm_i (p i < 12 ∧ Q (p i))) n + sm_i (p n < 12 ∧ Q (p n)) = sm_s (fun s => sm_i (Q s) * (sm_s (fun i => sm_i (p i = s)) n + sm_i (p n = s))) 12
    rw [ih, ← sm_sw1 (p n) Q, ← sm_sa]
    exact sm_sc 12 (fun s _ => (Nat.mul_add _ _ _).symm)
/-- the sitters of Q, counted by slots -/
theorem sm_sit (p : Nat → Nat) (Q : Nat → Prop) : sm_s (fun i => sm_i (p i < 12 ∧ Q (p i))) 8 = sm_r (sm_ld p) Q := sm_sw p Q 8
theorem sm_f0 {lo hi rm p : Nat → Nat} (h : sm_M lo hi rm p) (Q : Nat → Prop) :
    (∀ i, i < 8 → sm_i (p i < 12 ∧ sm_w lo hi i Q) ≤ sm_i (p i < 12 ∧ Q (p i))) ∧ (∀ s, s < 12 → sm_i (Q s) * sm_ld p s ≤ sm_i (Q s) * rm s) :=
  ⟨fun i hi => sm_ile (fun z => ⟨z.1, z.2 (p i) (h.1 i hi z.1).1 (h.1 i hi z.1).2⟩), fun s hs => Nat.mul_le_mul_left _ (h.2 s hs)⟩
theorem sm_f1 {lo hi rm p : Nat → Nat} (h : sm_M lo hi rm p) (Q : Nat → Prop) : sm_c lo hi p Q ≤ sm_r rm Q := by
  obtain ⟨h1, h2⟩ := sm_f0 h Q
  have e1 := sm_sl 8 h1
  have e2 := sm_sl 12 h2
  rw [sm_sit p Q] at e1
  exact Nat.le_trans e1 e2
theorem sm_f2 {lo hi rm p : Nat → Nat} (h : sm_M lo hi rm p) {Q : Nat → Prop} (e : sm_c lo hi p Q = sm_r rm Q) :
    (∀ s, s < 12 → Q s → sm_ld p s = rm s) ∧ sm_K lo hi p Q := by
  obtain ⟨h1, h2⟩ := sm_f0 h Q
  have e1 := sm_sl 8 h1
  have e2 := sm_sl 12 h2
  have e3 := sm_sit p Q
  have e4 : sm_s (fun i => sm_i (p i < 12 ∧ sm_w lo hi i Q)) 8 = sm_s (fun s => sm_i (Q s) * rm s) 12 := e
  have e5 : sm_s (fun i => sm_i (p i < 12 ∧ Q (p i))) 8 = sm_s (fun s => sm_i (Q s) * sm_ld p s) 12 := e3
  have g1 := sm_se 8 h1 (by omega)
  have g2 := sm_se 12 h2 (by omega)
  refine ⟨fun s hs hQ => ?_, fun i hi hp hQ => ?_⟩
  · have := g2 s hs
    rw [sm_i1 hQ] at this
    omega
  · have := g1 i hi
    rw [sm_i1 (P := p i < 12 ∧ Q (p i)) ⟨hp, hQ⟩] at this
    exact (sm_iinv this).2
theorem sm_f3 {lo hi rm p : Nat → Nat} (h : sm_M lo hi rm p) {Q : Nat → Prop} (hf : ∀ s, s < 12 → Q s → sm_ld p s = rm s) (hk : sm_K lo hi p Q) : sm_c lo hi p Q = sm_r rm Q := by
  have e1 : sm_c lo hi p Q = sm_s (fun i => sm_i (p i < 12 ∧ Q (p i))) 8 :=
    sm_sc 8 (fun i hi => sm_icg ⟨fun z => ⟨z.1, z.2 (p i) (h.1 i hi z.1).1 (h.1 i hi z.1).2⟩, fun z => ⟨z.1, hk i hi z.1 z.2⟩⟩)
  rw [e1, sm_sit p Q]
  refine sm_sc 12 (fun s hs => ?_)
  show sm_i (Q s) * sm_ld p s = sm_i (Q s) * rm s
  by_cases hQ : Q s
  · rw [hf s hs hQ]
  · rw [sm_i0 hQ, Nat.zero_mul, Nat.zero_mul]
/-- one job's state changes -/
theorem sm_c1 {lo hi p p' : Nat → Nat} {r : Nat} (hr : r < 8) (h : ∀ i, i < 8 → i ≠ r → (p' i < 12 ↔ p i < 12)) (Q : Nat → Prop) :
    sm_c lo hi p' Q + sm_i (p r < 12 ∧ sm_w lo hi r Q) = sm_c lo hi p Q + sm_i (p' r < 12 ∧ sm_w lo hi r Q) :=
  sm_s1 (f := fun i => sm_i (p' i < 12 ∧ sm_w lo hi i Q)) (g := fun i => sm_i (p i < 12 ∧ sm_w lo hi i Q)) 8 hr (fun i hi hne => sm_icg (by rw [h i hi hne]))
/-- one slot's room changes -/
theorem sm_r1 {rm rm' : Nat → Nat} {t : Nat} (ht : t < 12) (h1 : rm t = rm' t + 1) (h2 : ∀ s, s < 12 → s ≠ t → rm s = rm' s) (Q : Nat → Prop) :
    sm_r rm Q = sm_r rm' Q + sm_i (Q t) := by
  have h := sm_s1 (f := fun s => sm_i (Q s) * rm s) (g := fun s => sm_i (Q s) * rm' s) 12 ht (fun s hs hne => by
    show sm_i (Q s) * rm s = sm_i (Q s) * rm' s
    rw [h2 s hs hne])
  have h3 : sm_r rm Q + sm_i (Q t) * rm' t = sm_r rm' Q + sm_i (Q t) * rm t := h
  rw [h1, Nat.mul_add] at h3
  omega
theorem sm_ldc {p p' : Nat → Nat} {r : Nat} (hr : r < 8) (h : ∀ i, i < 8 → i ≠ r → p' i = p i) (s : Nat) : sm_ld p' s + sm_i (p r = s) = sm_ld p s + sm_i (p' r = s) :=
  sm_s1 (f := fun i => sm_i (p' i = s)) (g := fun i => sm_i (p i = s)) 8 hr (fun i hi hne => by
    show sm_i (p' i = s) = sm_i (p i = s)
    rw [h i hi hne])
theorem sm_ldb {p : Nat → Nat} {s : Nat} : sm_ld p s ≤ 8 := by
  have h := sm_sl (f := fun i => sm_i (p i = s)) (g := fun _ => 1) 8 (fun i _ => sm_ib _)
  exact h
theorem sm_ldp {p : Nat → Nat} {i : Nat} (hi : i < 8) : 1 ≤ sm_ld p (p i) := by
  have h := sm_s8 (f := fun k => sm_i (p k = p i)) (k := i) 8 hi
  have e : sm_i (p i = p i) = 1 := sm_i1 rfl
  have h' : sm_i (p i = p i) ≤ sm_ld p (p i) := h
  omega
end
section
/-- why j stays out: a full closed set of slots whose jobs all go before j -/
def sm_C (lo hi rm p k : Nat → Nat) (j : Nat) : Prop :=
  ∃ Q : Nat → Prop, sm_w lo hi j Q ∧ sm_c lo hi p Q = sm_r rm Q ∧ ∀ i, i < 8 → p i < 12 → sm_w lo hi i Q → k j < k i
/-- the same, with what is known where t lies in the set -/
def sm_D (lo hi rm p k : Nat → Nat) (t a b : Nat) (z : Nat → Prop) (j : Nat) : Prop :=
  ∃ Q : Nat → Prop, sm_w lo hi j Q ∧ sm_c lo hi p Q = sm_r rm Q ∧ (∀ i, i < 8 → p i < 12 → sm_w lo hi i Q → k j < k i) ∧ (Q t → (∀ s, a ≤ s → s ≤ b → Q s) ∧ z j)
/-- a search from j that found no free place: R holds the slots seen -/
def sm_F (lo hi rm p : Nat → Nat) (j : Nat) (R : Nat → Prop) : Prop :=
  sm_w lo hi j R ∧ (∀ s, s < 12 → R s → sm_ld p s = rm s) ∧ sm_K lo hi p R ∧ (∀ Q : Nat → Prop, sm_w lo hi j Q → sm_K lo hi p Q → ∀ s, s < 12 → R s → Q s)
/-- p' places r beside what p places -/
def sm_A (p p' : Nat → Nat) (r : Nat) : Prop := ∀ i, i < 8 → (p' i < 12 ↔ p i < 12 ∨ i = r)
theorem sm_A1 {p p' : Nat → Nat} {r : Nat} (h : sm_A p p' r) : ∀ i, i < 8 → i ≠ r → (p' i < 12 ↔ p i < 12) := fun i hi hne => by
  rw [h i hi]
  exact ⟨fun z => z.elim id (fun z => absurd z hne), Or.inl⟩
/-- the counted set grows by r -/
theorem sm_Ac {lo hi p p' : Nat → Nat} {r : Nat} (hr : r < 8) (hu : 12 ≤ p r) (h : sm_A p p' r) (Q : Nat → Prop) : sm_c lo hi p' Q = sm_c lo hi p Q + sm_i (sm_w lo hi r Q) := by
  have e := sm_c1 (lo := lo) (hi := hi) hr (sm_A1 h) Q
  rw [sm_i0 (P := p r < 12 ∧ sm_w lo hi r Q) (fun z => by omega), sm_icg (show (p' r < 12 ∧ sm_w lo hi r Q) ↔ sm_w lo hi r Q from ⟨fun z => z.2, fun z => ⟨(h r hr).mpr (Or.inr rfl), z⟩⟩)] at e
  omega
/-- a full set stays full, and r has no place in it -/
theorem sm_G1 {lo hi rm p p' : Nat → Nat} {r : Nat} (hr : r < 8) (hu : 12 ≤ p r) (h : sm_A p p' r) (hM : sm_M lo hi rm p') {Q : Nat → Prop} (e : sm_c lo hi p Q = sm_r rm Q) :
    sm_c lo hi p' Q = sm_r rm Q ∧ ¬ sm_w lo hi r Q := by
  have e1 := sm_Ac (lo := lo) (hi := hi) hr hu h Q
  have e2 := sm_f1 hM Q
  by_cases hw : sm_w lo hi r Q
  · rw [sm_i1 hw] at e1; omega
  · rw [sm_i0 hw] at e1
    exact ⟨by omega, hw⟩
theorem sm_G {lo hi rm p p' k : Nat → Nat} {r j : Nat} (hr : r < 8) (hu : 12 ≤ p r) (h : sm_A p p' r) (hM : sm_M lo hi rm p') (hC : sm_C lo hi rm p k j) : sm_C lo hi rm p' k j := by
  obtain ⟨Q, h1, h2, h3⟩ := hC
  obtain ⟨g1, g2⟩ := sm_G1 hr hu h hM h2
  refine ⟨Q, h1, g1, fun i hi hp hw => ?_⟩
  rcases (h i hi).mp hp with z | z
  · exact h3 i hi z hw
  · exact absurd (z ▸ hw) g2
/-- the union of two full closed sets -/
theorem sm_U {lo hi rm p : Nat → Nat} (hM : sm_M lo hi rm p) {Q R : Nat → Prop} (e1 : sm_c lo hi p Q = sm_r rm Q) (e2 : sm_c lo hi p R = sm_r rm R) :
    sm_c lo hi p (fun s => Q s ∨ R s) = sm_r rm (fun s => Q s ∨ R s) ∧ (∀ i, i < 8 → p i < 12 → sm_w lo hi i (fun s => Q s ∨ R s) → sm_w lo hi i Q ∨ sm_w lo hi i R) := by
  obtain ⟨f1, k1⟩ := sm_f2 hM e1
  obtain ⟨f2, k2⟩ := sm_f2 hM e2
  refine ⟨sm_f3 hM (fun s hs z => z.elim (f1 s hs) (f2 s hs)) (fun i hi hp z => z.elim (fun z s a b => Or.inl (k1 i hi hp z s a b)) (fun z s a b => Or.inr (k2 i hi hp z s a b))), fun i hi hp hw => ?_⟩
  rcases hw (p i) (hM.1 i hi hp).1 (hM.1 i hi hp).2 with z | z
  · exact Or.inl (k1 i hi hp z)
  · exact Or.inr (k2 i hi hp z)
/-- d leaves its place t, and the place with it -/
theorem sm_Vac {lo hi rm rm' p p' k : Nat → Nat} {d t j : Nat} {z : Nat → Prop} (hd : d < 8) (hM : sm_M lo hi rm p) (ht : p d = t) (ht2 : t < 12)
    (h1 : rm t = rm' t + 1) (h2 : ∀ s, s < 12 → s ≠ t → rm s = rm' s) (hp : ∀ i, i < 8 → i ≠ d → p' i = p i) (hpd : 12 ≤ p' d)
    (hz : ∀ i, k i < k d → z i) (hC : sm_C lo hi rm p k j) : sm_D lo hi rm' p' k t (lo d) (hi d) z j := by
  obtain ⟨Q, c1, c2, c3⟩ := hC
  obtain ⟨f1, k1⟩ := sm_f2 hM c2
  have e1 := sm_c1 (lo := lo) (hi := hi) hd (fun i hi hne => by rw [hp i hi hne]) Q (p := p) (p' := p')
  have e2 := sm_r1 ht2 h1 h2 Q
  have e3 : sm_i (p d < 12 ∧ sm_w lo hi d Q) = sm_i (Q t) := sm_icg ⟨fun q => by
    have := q.2 (p d) (hM.1 d hd q.1).1 (hM.1 d hd q.1).2
    rw [ht] at this
    exact this, fun q => ⟨by omega, k1 d hd (by omega) (by rw [ht]; exact q)⟩⟩
  rw [sm_i0 (P := p' d < 12 ∧ sm_w lo hi d Q) (fun q => by omega), e3] at e1
  refine ⟨Q, c1, by omega, fun i hi hpi hw => ?_, fun q => ?_⟩
  · have hne : i ≠ d := fun q => by rw [q] at hpi; omega
    rw [hp i hi hne] at hpi
    exact c3 i hi hpi hw
  · have hwd := k1 d hd (by omega) (by rw [ht]; exact q)
    exact ⟨fun s a b => hwd s a b, hz j (c3 d hd (by omega) hwd)⟩
theorem sm_DC {lo hi rm p k : Nat → Nat} {t a b j : Nat} {z : Nat → Prop} (h : sm_D lo hi rm p k t a b z j) : sm_C lo hi rm p k j := by
  obtain ⟨Q, h1, h2, h3, _⟩ := h
  exact ⟨Q, h1, h2, h3⟩
theorem sm_CD {lo hi rm p k : Nat → Nat} {t j : Nat} (h : sm_C lo hi rm p k j) : sm_D lo hi rm p k t t t (fun _ => True) j := by
  obtain ⟨Q, h1, h2, h3⟩ := h
  exact ⟨Q, h1, h2, h3, fun q => ⟨fun s a b => by rw [show s = t by omega]; exact q, trivial⟩⟩
/-- the placement leaves a seat of d: it fits still, under the lesser room too -/
theorem sm_VM {lo hi rm p p' : Nat → Nat} {d : Nat} (hd : d < 8) (hw : ∀ i, i < 8 → p i < 12 → lo i ≤ p i ∧ p i ≤ hi i) (hp : ∀ i, i < 8 → i ≠ d → p' i = p i) (hpd : 12 ≤ p' d)
    (hl : ∀ s, s < 12 → sm_ld p s ≤ rm s + sm_i (p d = s)) : sm_M lo hi rm p' := by
  refine ⟨fun i hi h => ?_, fun s hs => ?_⟩
  · have hne : i ≠ d := fun q => by rw [q] at h; omega
    rw [hp i hi hne] at h ⊢
    exact hw i hi h
  · have e := sm_ldc hd hp s
    rw [sm_i0 (P := p' d = s) (fun q => by omega)] at e
    have := hl s hs
    omega
/-- what the walk of fillFromBest shows -/
def sm_N (lo hi rm p k : Nat → Nat) (A : Nat → Prop) (p' : Nat → Nat) : Prop :=
  (p' = p ∧ ∀ j, j < 8 → A j → 12 ≤ p j → ∃ R, sm_F lo hi rm p j R) ∨
  (∃ r, r < 8 ∧ A r ∧ 12 ≤ p r ∧ sm_A p p' r ∧ sm_M lo hi rm p' ∧ ∀ j, j < 8 → A j → 12 ≤ p j → k r < k j → ∃ R, sm_F lo hi rm p j R)
theorem sm_MF {lo hi rm rm' p : Nat → Nat} (hM : sm_M lo hi rm' p) (h : ∀ s, s < 12 → rm' s ≤ rm s) : sm_M lo hi rm p := ⟨hM.1, fun s hs => Nat.le_trans (hM.2 s hs) (h s hs)⟩
/-- a failed search is a reason to stay out -/
theorem sm_FC {lo hi rm rm' p k : Nat → Nat} {t a b j : Nat} {z : Nat → Prop} {R : Nat → Prop} (hhi : ∀ i, i < 8 → hi i < 12) (hM' : sm_M lo hi rm' p) (hM : sm_M lo hi rm p)
    (hD : sm_D lo hi rm' p k t a b z j) (hF : sm_F lo hi rm p j R) : sm_C lo hi rm p k j := by
  obtain ⟨Q, q1, q2, q3, _⟩ := hD
  obtain ⟨f1, k1⟩ := sm_f2 hM' q2
  obtain ⟨r1, r2, r3, r4⟩ := hF
  refine ⟨R, r1, sm_f3 hM r2 r3, fun i hi hp hw => ?_⟩
  have hR : R (p i) := hw (p i) (hM.1 i hi hp).1 (hM.1 i hi hp).2
  exact q3 i hi hp (k1 i hi hp (r4 Q q1 k1 (p i) hp hR))
/-- fillFromBest keeps the best set -/
theorem sm_Fill {lo hi rm rm' p p' k : Nat → Nat} {A z : Nat → Prop} {t a b d : Nat} (hhi : ∀ i, i < 8 → hi i < 12) (hM' : sm_M lo hi rm' p) (ht : t < 12) (h1 : rm t = rm' t + 1) (h2 : ∀ s, s < 12 → s ≠ t → rm s = rm' s)
    (hk : ∀ i j, i < 8 → j < 8 → k i = k j → i = j) (hab : a ≤ t ∧ t ≤ b)
    (hC : ∀ j, j < 8 → A j → 12 ≤ p j → j ≠ d → sm_D lo hi rm' p k t a b z j) (hd : A d → d < 8 → 12 ≤ p d → lo d = a ∧ hi d = b)
    (hN : sm_N lo hi rm p k A p') : sm_M lo hi rm p' ∧ (∀ j, j < 8 → A j → 12 ≤ p' j → sm_C lo hi rm p' k j) ∧
      (p' = p ∨ ∃ r, r < 8 ∧ A r ∧ 12 ≤ p r ∧ sm_A p p' r ∧ (r ≠ d → z r)) := by
  have hle : ∀ s, s < 12 → rm' s ≤ rm s := fun s hs => by
    by_cases e : s = t
    · rw [e, h1]; omega
    · rw [h2 s hs e]; exact Nat.le_refl _
  have hM : sm_M lo hi rm p := sm_MF hM' hle
  have hdF : A d → d < 8 → 12 ≤ p d → ∀ R, ¬ sm_F lo hi rm p d R := fun g1 g2 g3 R hF => by
    obtain ⟨e1, e2⟩ := hd g1 g2 g3
    have hR : R t := hF.1 t (by omega) (by omega)
    have x1 := hF.2.1 t ht hR
    have x2 := hM'.2 t ht
    omega
  have hFC : ∀ j, j < 8 → A j → 12 ≤ p j → (∃ R, sm_F lo hi rm p j R) → sm_C lo hi rm p k j := fun j hj hA hp ⟨R, hF⟩ => by
    by_cases e : j = d
    · subst e
      exact absurd hF (hdF hA hj hp R)
    · exact sm_FC hhi hM' hM (hC j hj hA hp e) hF
  rcases hN with ⟨rfl, hN⟩ | ⟨r, hr, hAr, hpr, hA, hMp, hN⟩
  · exact ⟨hM, fun j hj hA hp => hFC j hj hA hp (hN j hj hA hp), Or.inl rfl⟩
  have hot : ∀ Q : Nat → Prop, sm_w lo hi r Q → sm_c lo hi p Q = sm_r rm' Q → Q t := fun Q hw e => by
    by_cases hq : Q t
    · exact hq
    · have e2 := sm_r1 ht h1 h2 Q
      rw [sm_i0 hq] at e2
      exact absurd hw (sm_G1 hr hpr hA hMp (show sm_c lo hi p Q = sm_r rm Q by omega)).2
  have step : ∀ Q : Nat → Prop, Q t → sm_w lo hi r Q → sm_c lo hi p Q = sm_r rm' Q → sm_c lo hi p' Q = sm_r rm Q := fun Q hq hw e => by
    have e1 := sm_Ac (lo := lo) (hi := hi) hr hpr hA Q
    have e2 := sm_r1 ht h1 h2 Q
    rw [sm_i1 hq] at e2
    rw [sm_i1 hw] at e1
    omega
  refine ⟨hMp, fun j hj hAj hpj => ?_, Or.inr ⟨r, hr, hAr, hpr, hA, fun hne => ?_⟩⟩
  · have hjr : j ≠ r := fun e => by
      have := (hA j hj).mpr (Or.inr e)
      omega
    have hpj' : 12 ≤ p j := by
      rcases Nat.lt_or_ge (p j) 12 with q | q
      · have := (hA j hj).mpr (Or.inl q)
        omega
      · exact q
    rcases Nat.lt_or_ge (k r) (k j) with hlt | hge
    · exact sm_G hr hpr hA hMp (hFC j hj hAj hpj' (hN j hj hAj hpj' hlt))
    · have hlt : k j < k r := by
        rcases Nat.lt_or_ge (k j) (k r) with q | q
        · exact q
        · exact absurd (hk j r hj hr (by omega)) hjr
      by_cases ejd : j = d
      · subst ejd
        obtain ⟨Q, q1, q2, q3, q4⟩ := hC r hr hAr hpr (fun e => hjr e.symm)
        have hq := hot Q q1 q2
        obtain ⟨e1, e2⟩ := hd hAj hj hpj'
        refine ⟨Q, fun s x y => (q4 hq).1 s (by omega) (by omega), step Q hq q1 q2, fun i hi hp hw => ?_⟩
        rcases (hA i hi).mp hp with q | q
        · exact Nat.lt_trans hlt (q3 i hi q hw)
        · rw [q]; exact hlt
      · obtain ⟨Q, q1, q2, q3, q4⟩ := hC j hj hAj hpj' ejd
        by_cases hq : Q t
        · by_cases erd : r = d
          · subst erd
            obtain ⟨e1, e2⟩ := hd hAr hr hpr
            refine ⟨Q, q1, step Q hq (fun s x y => (q4 hq).1 s (by omega) (by omega)) q2, fun i hi hp hw => ?_⟩
            rcases (hA i hi).mp hp with q | q
            · exact q3 i hi q hw
            · rw [q]; exact hlt
          · obtain ⟨R, r1, r2, r3, r4⟩ := hC r hr hAr hpr erd
            obtain ⟨u1, u2⟩ := sm_U hM' q2 r2
            refine ⟨fun s => Q s ∨ R s, fun s x y => Or.inl (q1 s x y), step _ (Or.inl hq) (fun s x y => Or.inr (r1 s x y)) u1, fun i hi hp hw => ?_⟩
            rcases (hA i hi).mp hp with q | q
            · rcases u2 i hi q hw with g | g
              · exact q3 i hi q g
              · exact Nat.lt_trans hlt (r3 i hi q g)
            · rw [q]; exact hlt
        · have e2 := sm_r1 ht h1 h2 Q
          rw [sm_i0 hq] at e2
          exact sm_G hr hpr hA hMp ⟨Q, q1, by omega, q3⟩
  · obtain ⟨Q, q1, q2, q3, q4⟩ := hC r hr hAr hpr hne
    exact (q4 (hot Q q1 q2)).2
/-- what the walk of contest shows -/
def sm_X (lo hi rm p k : Nat → Nat) (d : Nat) (p' : Nat → Nat) : Prop :=
  (sm_A p p' d ∧ sm_M lo hi rm p') ∨
  (p' = p ∧ ∃ R, sm_F lo hi rm p d R ∧ ∀ i, i < 8 → p i < 12 → R (p i) → k d < k i) ∨
  (∃ R l, sm_F lo hi rm p d R ∧ l < 8 ∧ p l < 12 ∧ R (p l) ∧ k l < k d ∧ (∀ i, i < 8 → p i < 12 → R (p i) → k l ≤ k i) ∧ sm_M lo hi rm p' ∧ ∀ i, i < 8 → (p' i < 12 ↔ (p i < 12 ∧ i ≠ l) ∨ i = d))
theorem sm_Con {lo hi rm p p' k : Nat → Nat} {A : Nat → Prop} {d : Nat} (hd : d < 8) (hM : sm_M lo hi rm p) (hpd : 12 ≤ p d)
    (hk : ∀ i j, i < 8 → j < 8 → k i = k j → i = j) (hC : ∀ j, j < 8 → A j → 12 ≤ p j → j ≠ d → sm_C lo hi rm p k j) (hX : sm_X lo hi rm p k d p') :
    sm_M lo hi rm p' ∧ (∀ j, j < 8 → (j = d ∨ p j < 12 ∨ A j) → 12 ≤ p' j → sm_C lo hi rm p' k j) := by
  rcases hX with ⟨hA, hMp⟩ | ⟨rfl, R, hF, hb⟩ | ⟨R, l, hF, hl, hpl, hRl, hkl, hmin, hMp, hP⟩
  · refine ⟨hMp, fun j hj h hp => ?_⟩
    have hjd : j ≠ d := fun e => by
      have := (hA j hj).mpr (Or.inr e)
      omega
    have hpj : 12 ≤ p j := by
      rcases Nat.lt_or_ge (p j) 12 with q | q
      · have := (hA j hj).mpr (Or.inl q)
        omega
      · exact q
    rcases h with h | h | h
    · exact absurd h hjd
    · omega
    · exact sm_G hd hpd hA hMp (hC j hj h hpj hjd)
  · refine ⟨hM, fun j hj h hp => ?_⟩
    by_cases e : j = d
    · subst e
      obtain ⟨f1, f2, f3, f4⟩ := hF
      exact ⟨R, f1, sm_f3 hM f2 f3, fun i hi hpi hw => hb i hi hpi (hw (p' i) (hM.1 i hi hpi).1 (hM.1 i hi hpi).2)⟩
    · rcases h with h | h | h
      · exact absurd h e
      · omega
      · exact hC j hj h hp e
  · obtain ⟨f1, f2, f3, f4⟩ := hF
    have hld : l ≠ d := fun e => by rw [e] at hpl; omega
    have cR := sm_f3 hM f2 f3
    have mid : ∃ p1 : Nat → Nat, (∀ i, i < 8 → i ≠ l → p1 i = p i) ∧ 12 ≤ p1 l :=
      ⟨fun i => if i = l then 12 else p i, fun i _ hne => if_neg hne, by
        show 12 ≤ (if l = l then 12 else p l)
        rw [if_pos rfl]; exact Nat.le_refl _⟩
    obtain ⟨p1, g1, g2⟩ := mid
    have hM1 : sm_M lo hi rm p1 := sm_VM hl hM.1 g1 g2 (fun s hs => Nat.le_trans (hM.2 s hs) (Nat.le_add_right _ _))
    have g3 : 12 ≤ p1 d := by rw [g1 d hd (fun e => hld e.symm)]; exact hpd
    have hA : sm_A p1 p' d := fun i hi => by
      rw [hP i hi]
      by_cases e : i = l
      · subst e
        exact ⟨fun z => z.elim (fun z => absurd rfl z.2) Or.inr, fun z => z.elim (fun z => by omega) Or.inr⟩
      · rw [g1 i hi e]
        exact ⟨fun z => z.elim (fun z => Or.inl z.1) Or.inr, fun z => z.elim (fun z => Or.inl ⟨z, e⟩) Or.inr⟩
    have swap : ∀ Q : Nat → Prop, sm_w lo hi l Q → sm_w lo hi d Q → sm_c lo hi p Q = sm_r rm Q → sm_c lo hi p' Q = sm_r rm Q := fun Q w1 w2 e => by
      have e1 := sm_Ac (lo := lo) (hi := hi) hd g3 hA Q
      have e2 := sm_c1 (lo := lo) (hi := hi) hl (fun i hi hne => by rw [g1 i hi hne]) Q (p := p) (p' := p1)
      rw [sm_i1 (P := p l < 12 ∧ sm_w lo hi l Q) ⟨hpl, w1⟩, sm_i0 (P := p1 l < 12 ∧ sm_w lo hi l Q) (fun q => by omega)] at e2
      rw [sm_i1 w2] at e1
      omega
    refine ⟨hMp, fun j hj h hp => ?_⟩
    have hjd : j ≠ d := fun e => by
      have := (hP j hj).mpr (Or.inr e)
      omega
    by_cases ejl : j = l
    · subst ejl
      refine ⟨R, f3 j hj hpl hRl, swap R (f3 j hj hpl hRl) f1 cR, fun i hi hpi hw => ?_⟩
      rcases (hP i hi).mp hpi with q | q
      · have h1 := hmin i hi q.1 (hw (p i) (hM.1 i hi q.1).1 (hM.1 i hi q.1).2)
        rcases Nat.lt_or_ge (k j) (k i) with x | x
        · exact x
        · exact absurd (hk i j hi hj (by omega)) q.2
      · rw [q]; exact hkl
    · have hpj : 12 ≤ p j := by
        rcases Nat.lt_or_ge (p j) 12 with q | q
        · have := (hP j hj).mpr (Or.inl ⟨q, ejl⟩)
          omega
        · exact q
      have hAj : A j := by
        rcases h with h | h | h
        · exact absurd h hjd
        · omega
        · exact h
      obtain ⟨Q, q1, q2, q3⟩ := hC j hj hAj hpj hjd
      by_cases hw : sm_w lo hi l Q
      · obtain ⟨u1, u2⟩ := sm_U hM q2 cR
        have hjl := q3 l hl hpl hw
        refine ⟨fun s => Q s ∨ R s, fun s x y => Or.inl (q1 s x y), swap _ (fun s x y => Or.inl (hw s x y)) (fun s x y => Or.inr (f1 s x y)) u1, fun i hi hpi hwi => ?_⟩
        rcases (hP i hi).mp hpi with q | q
        · rcases u2 i hi q.1 hwi with g | g
          · exact q3 i hi q.1 g
          · exact Nat.lt_of_lt_of_le hjl (hmin i hi q.1 (g (p i) (hM.1 i hi q.1).1 (hM.1 i hi q.1).2))
        · rw [q]; exact Nat.lt_trans hjl hkl
      · have e2 := sm_c1 (lo := lo) (hi := hi) hl (fun i hi hne => by rw [g1 i hi hne]) Q (p := p) (p' := p1)
        rw [sm_i0 (P := p l < 12 ∧ sm_w lo hi l Q) (fun q => hw q.2), sm_i0 (P := p1 l < 12 ∧ sm_w lo hi l Q) (fun q => hw q.2)] at e2
        refine sm_G hd g3 hA hMp ⟨Q, q1, by omega, fun i hi hpi hwi => ?_⟩
        by_cases e : i = l
        · rw [e] at hpi; omega
        · rw [g1 i hi e] at hpi
          exact q3 i hi hpi hwi
/-- the second search of contest can't fail -/
theorem sm_Snd {lo hi rm p p1 : Nat → Nat} {d l : Nat} {R R1 : Nat → Prop} (hM : sm_M lo hi rm p) (hl : l < 8) (hF : sm_F lo hi rm p d R) (hpl : p l < 12) (hRl : R (p l)) (g1 : ∀ i, i < 8 → i ≠ l → p1 i = p i) (g2 : 12 ≤ p1 l) : ¬ sm_F lo hi rm p1 d R1 := fun hF1 => by
  obtain ⟨f1, f2, f3, f4⟩ := hF1
  have no : ¬ R1 (p l) := fun z => by
    have e := sm_ldc hl g1 (p l)
    rw [sm_i1 (P := p l = p l) rfl, sm_i0 (P := p1 l = p l) (fun q => by omega)] at e
    have e2 := f2 (p l) hpl z
    have e3 := hM.2 (p l) hpl
    omega
  have hK : sm_K lo hi p R1 := fun i hi hpi hR => by
    by_cases e : i = l
    · subst e; exact absurd hR no
    · rw [← g1 i hi e] at hpi hR
      exact f3 i hi hpi hR
  exact no (hF.2.2.2 R1 f1 hK (p l) hpl hRl)
/-- a job of a placed set finds a place in any part of it -/
theorem sm_Fit {lo hi rm p q : Nat → Nat} {d : Nat} {R : Nat → Prop} (hM : sm_M lo hi rm p) (hMq : sm_M lo hi rm q) (hd : d < 8) (hpd : p d < 12) (hqd : 12 ≤ q d) (hs : ∀ i, i < 8 → q i < 12 → p i < 12) : ¬ sm_F lo hi rm q d R := fun hF => by
  obtain ⟨f1, f2, f3, f4⟩ := hF
  have e := sm_f3 hMq f2 f3
  have e1 := sm_f1 hM R
  let p2 : Nat → Nat := fun i => if i = d then 12 else p i
  have h2 : ∀ i, i < 8 → i ≠ d → (p i < 12 ↔ p2 i < 12) := fun i hi hne => by
    have : p2 i = p i := if_neg hne
    rw [this]
  have h3 : p2 d = 12 := if_pos rfl
  have e2 := sm_c1 (lo := lo) (hi := hi) hd h2 R
  rw [sm_i0 (P := p2 d < 12 ∧ sm_w lo hi d R) (fun z => by omega), sm_i1 (P := p d < 12 ∧ sm_w lo hi d R) ⟨hpd, f1⟩] at e2
  have e3 : sm_c lo hi q R ≤ sm_c lo hi p2 R := sm_sl 8 (fun i hi => sm_ile (fun z => ⟨by
    by_cases e : i = d
    · rw [e] at z; omega
    · exact (h2 i hi e).mp (hs i hi z.1), z.2⟩))
  omega
/-- a job that stays out: its search fails, and all that it reaches go before it -/
theorem sm_PrU {lo hi rm p k : Nat → Nat} {d : Nat} {R : Nat → Prop} (hM : sm_M lo hi rm p) (hC : sm_C lo hi rm p k d) (hF : sm_F lo hi rm p d R) : ∀ i, i < 8 → p i < 12 → R (p i) → k d < k i := fun i hi hp hR => by
  obtain ⟨Q, q1, q2, q3⟩ := hC
  obtain ⟨g1, g2⟩ := sm_f2 hM q2
  exact q3 i hi hp (g2 i hi hp (hF.2.2.2 Q q1 g2 (p i) hp hR))
/-- the job that came in its stead is reached again -/
theorem sm_PrC {lo hi rm rm' p p' : Nat → Nat} {d r t : Nat} {R : Nat → Prop} (hM' : sm_M lo hi rm' p) (hMp : sm_M lo hi rm p') (hr : r < 8) (hpr : 12 ≤ p r) (hA : sm_A p p' r) (ht : t < 12) (h1 : rm t = rm' t + 1) (h2 : ∀ s, s < 12 → s ≠ t → rm s = rm' s)
    (hw : lo d ≤ t ∧ t ≤ hi d) (hF : sm_F lo hi rm p' d R) : R (p' r) := by
  obtain ⟨f1, f2, f3, f4⟩ := hF
  have hrp : p' r < 12 := (hA r hr).mpr (Or.inr rfl)
  have hR : R t := f1 t hw.1 hw.2
  by_cases hx : R (p' r)
  · exact hx
  · have e := sm_f3 hMp f2 f3
    have e1 := sm_Ac (lo := lo) (hi := hi) hr hpr hA R
    rw [sm_i0 (P := sm_w lo hi r R) (fun z => hx (z (p' r) (hMp.1 r hr hrp).1 (hMp.1 r hr hrp).2))] at e1
    have e2 := sm_r1 ht h1 h2 R
    rw [sm_i1 hR] at e2
    have e3 := sm_f1 hM' R
    omega
end
section
/-- a seat as the byte that holds it: 12 and more is no seat -/
def sm_v (x : Nat) : Int32 := if x < 12 then nI x else -1
theorem sm_v1 {x : Nat} (h : x < 12) : sm_v x = nI x := if_pos h
theorem sm_v0 {x : Nat} (h : 12 ≤ x) : sm_v x = -1 := if_neg (by omega)
theorem sm_b8 : ∀ n, n < 128 → (nI n).toInt8.toInt32 = nI n := by decide +kernel
theorem sm_bm : (-1 : Int32).toInt8.toInt32 = -1 := by decide
theorem sm_vb (x : Nat) : (sm_v x).toInt8.toInt32 = sm_v x := by
  rcases Nat.lt_or_ge x 12 with h | h
  · rw [sm_v1 h]; exact sm_b8 x (by omega)
  · rw [sm_v0 h]; exact sm_bm
theorem sm_vlt {A B : Prop} {y : Int32} (x : Nat) (f : 12 ≤ x → A) (g : x < 12 → B) (hy : y = sm_v x) : (y < 0 → A) ∧ (¬ y < 0 → B) := by
  subst hy
  rcases Nat.lt_or_ge x 12 with h | h
  · rw [sm_v1 h]; exact br_f (nI_pos (by omega)) (g h)
  · rw [sm_v0 h]; exact br_t (by decide) (f h)
theorem sm_vge {A B : Prop} {y : Int32} (x : Nat) (f : x < 12 → A) (g : 12 ≤ x → B) (hy : y = sm_v x) : (0 ≤ y → A) ∧ (¬ 0 ≤ y → B) := by
  subst hy
  rcases Nat.lt_or_ge x 12 with h | h
  · rw [sm_v1 h]; exact br_t (nI_pos' (by omega)) (f h)
  · rw [sm_v0 h]; exact br_f (by decide) (g h)
theorem sm_vne {s : Nat} (hs : s < 12) : ¬ (-1 : Int32) = nI s := fun z => by
  have h1 : (nI s).toInt = (s : Int) := nI_toInt (by omega)
  rw [← z] at h1
  have h2 : (-1 : Int32).toInt = -1 := by decide
  omega
theorem sm_veq {A B : Prop} {y y' : Int32} (x s : Nat) (hs : s < 12) (f : x = s → A) (g : x ≠ s → B) (hy : y = sm_v x) (hy' : y' = nI s := by rfl) : (y = y' → A) ∧ (¬ y = y' → B) := by
  subst hy hy'
  rcases Nat.lt_or_ge x 12 with h | h
  · rw [sm_v1 h]; exact pk_eq x s f g
  · rw [sm_v0 h]; exact br_f (sm_vne hs) (g (by omega))
theorem sm_at {a : Nat → Int32} {n : Nat} {v : Int32} (h : a n = v) (hn : n < 2 ^ 31 := by omega) : a (nI n).toNatClampNeg = v := by
  rw [nI_clamp hn]; exact h
theorem sm_dec {a : Nat → Int32} {s n : Nat} (h : a s = nI (n + 1)) (hs : s < 12) (hn : n < 100) : upd a (nI s).toNatClampNeg (((a (nI s).toNatClampNeg) - 1).toInt8.toInt32) = upd a s (nI n) := by
  rw [nI_clamp (by omega), h, nI_pred, sm_b8 n (by omega)]
theorem sm_inc {a : Nat → Int32} {s n : Nat} (h : a s = nI n) (hs : s < 12) (hn : n < 100) : upd a (nI s).toNatClampNeg (((a (nI s).toNatClampNeg) + 1).toInt8.toInt32) = upd a s (nI (n + 1)) := by
  rw [nI_clamp (by omega), h, nI_1, sm_b8 (n + 1) (by omega)]
/-- f with x at d -/
def sm_u (f : Nat → Nat) (d x : Nat) : Nat → Nat := fun i => if i = d then x else f i
theorem sm_us {f : Nat → Nat} {d x : Nat} : sm_u f d x d = x := if_pos rfl
theorem sm_un {f : Nat → Nat} {d x i : Nat} (h : i ≠ d) : sm_u f d x i = f i := if_neg h
/-- the order of jobs: the greater number goes before -/
def sm_k (w : Nat → Nat) (i : Nat) : Nat := 8 * w i + (7 - i)
theorem sm_kinj (w : Nat → Nat) : ∀ i j, i < 8 → j < 8 → sm_k w i = sm_k w j → i = j := fun i j hi hj h => by
  unfold sm_k at h
  omega
/-- windows, worths and rooms -/
def sm_E (cap : Nat) (lo hi w rm : Nat → Nat) (a2 a3 a4 a5 : Nat → Int32) : Prop :=
  cap ≤ 7 ∧ (∀ i, i < 8 → hi i < 12 ∧ lo i < 12 ∧ a2 i = nI (lo i) ∧ a3 i = nI (hi i)) ∧ (∀ i, i < 8 → w i ≤ 20 ∧ a4 i = nI (w i)) ∧ (∀ s, s < 12 → rm s ≤ 4 ∧ a5 s = nI (rm s))
/-- seats and loads -/
def sm_S (cap : Nat) (p : Nat → Nat) (a6 a7 : Nat → Int32) : Prop := (∀ i, i < 8 → a6 i = sm_v (p i) ∧ (p i < 12 → i < cap)) ∧ (∀ s, s < 12 → a7 s = nI (sm_ld p s))
theorem sm_S0 {cap d t : Nat} {p : Nat → Nat} {a6 a7 : Nat → Int32} (h : sm_S cap p a6 a7) (hd : d < 8) (ht : p d = t) (ht2 : t < 12) : sm_S cap (sm_u p d 12) (upd a6 d (-1)) (upd a7 t (nI (sm_ld p t - 1))) := by
  refine ⟨fun i hi => ?_, fun s hs => ?_⟩
  · by_cases e : i = d
    · subst e
      rw [pk_us, sm_us]
      exact ⟨rfl, fun z => by omega⟩
    · rw [pk_un e, sm_un e]
      exact h.1 i hi
  · have e := sm_ldc (p := p) (p' := sm_u p d 12) hd (fun i _ hne => sm_un hne) s
    rw [sm_us, sm_i0 (P := 12 = s) (by omega), ht] at e
    by_cases e2 : s = t
    · subst e2
      rw [sm_i1 (P := s = s) rfl] at e
      rw [pk_us, show sm_ld (sm_u p d 12) s = sm_ld p s - 1 by omega]
    · rw [sm_i0 (P := t = s) (fun z => e2 z.symm)] at e
      rw [pk_un e2, show sm_ld (sm_u p d 12) s = sm_ld p s by omega]
      exact h.2 s hs
theorem sm_S1 {cap d t : Nat} {p : Nat → Nat} {a6 a7 : Nat → Int32} (h : sm_S cap p a6 a7) (hd : d < 8) (hc : d < cap) (hp : 12 ≤ p d) (ht2 : t < 12) : sm_S cap (sm_u p d t) (upd a6 d (nI t)) (upd a7 t (nI (sm_ld p t + 1))) := by
  refine ⟨fun i hi => ?_, fun s hs => ?_⟩
  · by_cases e : i = d
    · subst e
      rw [pk_us, sm_us, sm_v1 ht2]
      exact ⟨rfl, fun _ => hc⟩
    · rw [pk_un e, sm_un e]
      exact h.1 i hi
  · have e := sm_ldc (p := p) (p' := sm_u p d t) hd (fun i _ hne => sm_un hne) s
    rw [sm_us, sm_i0 (P := p d = s) (by omega)] at e
    by_cases e2 : s = t
    · subst e2
      rw [sm_i1 (P := s = s) rfl] at e
      rw [pk_us, show sm_ld (sm_u p d s) s = sm_ld p s + 1 by omega]
    · rw [sm_i0 (P := t = s) (fun z => e2 z.symm)] at e
      rw [pk_un e2, show sm_ld (sm_u p d t) s = sm_ld p s by omega]
      exact h.2 s hs
theorem sm_Sn {cap d : Nat} {p : Nat → Nat} {a6 a7 : Nat → Int32} (h : sm_S cap p a6 a7) (hd : d < 8) (hp : 12 ≤ p d) : sm_S cap (sm_u p d 12) a6 a7 := by
  refine ⟨fun i hi => ?_, fun s hs => ?_⟩
  · by_cases e : i = d
    · subst e
      rw [sm_us]
      refine ⟨?_, fun z => by omega⟩
      rw [(h.1 i hi).1, sm_v0 hp]; rfl
    · rw [sm_un e]
      exact h.1 i hi
  · have e := sm_ldc (p := p) (p' := sm_u p d 12) hd (fun i _ hne => sm_un hne) s
    rw [sm_us, sm_i0 (P := 12 = s) (by omega), sm_i0 (P := p d = s) (by omega)] at e
    rw [show sm_ld (sm_u p d 12) s = sm_ld p s by omega]
    exact h.2 s hs
end
section
/-- b is the first by le among those below i for which D holds; 12 and more: there is none -/
def sm_L (D : Nat → Prop) (le : Nat → Nat → Prop) (i b : Nat) : Prop := (12 ≤ b ∧ ∀ j, j < i → ¬ D j) ∨ (b < i ∧ D b ∧ ∀ j, j < i → D j → le j b)
theorem sm_L0 {D : Nat → Prop} {le : Nat → Nat → Prop} : sm_L D le 0 12 := Or.inl ⟨Nat.le_refl _, fun j hj => absurd hj (by omega)⟩
theorem sm_Lskip {D : Nat → Prop} {le : Nat → Nat → Prop} {i b : Nat} (h : sm_L D le i b) (no : ¬ D i) : sm_L D le (i + 1) b := by
  rcases h with ⟨h1, h2⟩ | ⟨h1, h2, h3⟩
  · exact Or.inl ⟨h1, lt_s h2 no⟩
  · exact Or.inr ⟨by omega, h2, lt_s h3 (fun z => absurd z no)⟩
theorem sm_Lnew {D : Nat → Prop} {le : Nat → Nat → Prop} {i b : Nat} (h : sm_L D le i b) (hD : D i) (hr : le i i) (hn : b < 12 → ∀ j, le j b → le j i) (hi : i < 12) : sm_L D le (i + 1) i := by
  rcases h with ⟨h1, h2⟩ | ⟨h1, h2, h3⟩
  · exact Or.inr ⟨by omega, hD, lt_s (fun j hj hd => absurd hd (h2 j hj)) (fun _ => hr)⟩
  · exact Or.inr ⟨by omega, hD, lt_s (fun j hj hd => hn (by omega) j (h3 j hj hd)) (fun _ => hr)⟩
theorem sm_Lkeep {D : Nat → Prop} {le : Nat → Nat → Prop} {i b : Nat} (h : sm_L D le i b) (hb : b < 12) (hl : le i b) : sm_L D le (i + 1) b := by
  rcases h with ⟨h1, h2⟩ | ⟨h1, h2, h3⟩
  · omega
  · exact Or.inr ⟨by omega, h2, lt_s h3 (fun _ => hl)⟩
theorem sm_Llt {D : Nat → Prop} {le : Nat → Nat → Prop} {i b : Nat} (h : sm_L D le i b) (hb : b < 12) : b < i ∧ D b ∧ ∀ j, j < i → D j → le j b := by
  rcases h with ⟨h1, h2⟩ | h
  · omega
  · exact h
theorem sm_Lge {D : Nat → Prop} {le : Nat → Nat → Prop} {i b : Nat} (h : sm_L D le i b) (hi : i ≤ 12) (hb : 12 ≤ b) : ∀ j, j < i → ¬ D j := by
  rcases h with ⟨h1, h2⟩ | h
  · exact h2
  · omega
section
variable {cap : Nat} {lo hi w rm p : Nat → Nat} {le fs ff tk : Int32} {a1 a2 a3 a4 a5 a6 a7 a8 a9 a10 a11 a12 a13 a14 a15 : Nat → Int32}
theorem sm_before {post : Int32 → Prop} {x y : Int32} (i j : Nat) (hE : sm_E cap lo hi w rm a2 a3 a4 a5) (hi : i < 8) (hj : j < 8) (hx : x = nI i) (hy : y = nI j) (H1 : sm_k w j < sm_k w i → post 1) (H0 : ¬ sm_k w j < sm_k w i → post 0) : wpX_before post (nI cap, le, fs, ff, tk, a1, a2, a3, a4, a5, a6, a7, a8, a9, a10, a11, a12, a13, a14, a15) x y := by
  subst hx hy
  obtain ⟨_, _, h4, _⟩ := hE
  have b1 := (h4 i hi).1
  have b2 := (h4 j hj).1
  unfold sm_k at H1 H0
  exact ⟨pk_in i 8 hi, pk_in j 8 hj, pk_lt (w j) (w i) (fun z => H1 (by omega)) (fun z => ⟨pk_in i 8 hi, pk_in j 8 hj,
    pk_eq (w i) (w j) (fun e => pk_le j i (fun q => H0 (by omega)) (fun q => H1 (by omega))) (fun e => H0 (by omega)) (sm_at (h4 i hi).2) (sm_at (h4 j hj).2)⟩) (sm_at (h4 j hj).2) (sm_at (h4 i hi).2)⟩
theorem sm_vacate {post : St1 → Prop} {d : Nat} (hd : d < 8) (hS : sm_S cap p a6 a7) (H : ∀ a6' a7', sm_S cap (sm_u p d 12) a6' a7' → post (nI cap, le, fs, ff, tk, a1, a2, a3, a4, a5, a6', a7', a8, a9, a10, a11, a12, a13, a14, a15)) : wpX_vacate post (nI cap, le, fs, ff, tk, a1, a2, a3, a4, a5, a6, a7, a8, a9, a10, a11, a12, a13, a14, a15) (nI d) := by
  rcases Nat.lt_or_ge (p d) 12 with h | h
  · have hl := sm_ldp (p := p) hd
    have hb := sm_ldb (p := p) (s := p d)
    have e7 : a7 (p d) = nI (sm_ld p (p d) - 1 + 1) := by rw [hS.2 (p d) h, show sm_ld p (p d) - 1 + 1 = sm_ld p (p d) by omega]
    exact ⟨pk_in d 8 hd, nm_r (sm_at (show a6 d = nI (p d) by rw [(hS.1 d hd).1, sm_v1 h])) (br_f (nI_pos (by omega)) ⟨pk_in (p d) 12 h, pk_in (p d) 12 h, nm_r (sm_dec e7 h (by omega)) ⟨pk_in d 8 hd, nm_r (by rw [nI_clamp (by omega)]) (H _ _ (sm_S0 hS hd rfl h))⟩⟩)⟩
  · exact ⟨pk_in d 8 hd, nm_r (sm_at (show a6 d = -1 by rw [(hS.1 d hd).1, sm_v0 h])) (br_t (by decide) (H _ _ (sm_Sn hS hd h)))⟩
theorem sm_sitt {post : St1 → Prop} {d t : Nat} (hd : d < cap) (hc : cap ≤ 7) (ht : t < 12) (hp : 12 ≤ p d) (hS : sm_S cap p a6 a7) (H : ∀ a6' a7', sm_S cap (sm_u p d t) a6' a7' → post (nI cap, le, fs, ff, tk, a1, a2, a3, a4, a5, a6', a7', a8, a9, a10, a11, a12, a13, a14, a15)) : wpX_sit post (nI cap, le, fs, ff, tk, a1, a2, a3, a4, a5, a6, a7, a8, a9, a10, a11, a12, a13, a14, a15) (nI d) (nI t) := by
  have hb := sm_ldb (p := p) (s := t)
  exact ⟨pk_in d 8 (by omega), nm_r (by rw [nI_clamp (by omega), sm_b8 t (by omega)]) ⟨pk_in t 12 ht, pk_in t 12 ht, nm_r (sm_inc (hS.2 t ht) ht (by omega)) (H _ _ (sm_S1 hS (by omega) hd hp ht))⟩⟩
/-- who waits behind bd -/
def sm_wt (w p : Nat → Nat) (a1 : Nat → Int32) (bd : Nat) (j : Nat) : Prop := a1 j ≠ 0 ∧ 12 ≤ p j ∧ (bd < 12 → sm_k w j < sm_k w bd)
/-- the best of the waiting jobs behind bd -/
theorem sm_bestW {post : Int32 → Prop} {bd : Nat} (hE : sm_E cap lo hi w rm a2 a3 a4 a5) (hS : sm_S cap p a6 a7) (hbd : bd < 12 → bd < 8)
    (H : ∀ b, sm_L (sm_wt w p a1 bd) (fun j b => sm_k w j ≤ sm_k w b) cap b → post (sm_v b)) : wpX_bestWaitingAfter post (nI cap, le, fs, ff, tk, a1, a2, a3, a4, a5, a6, a7, a8, a9, a10, a11, a12, a13, a14, a15) (sm_v bd) := by
  have hc := hE.1
  refine pk_loop (σ := Nat) (fun n i b => wX_bestWaitingAfter_4 post (sm_v bd) (nI cap) le fs ff tk a1 a2 a3 a4 a5 a6 a7 a8 a9 a10 a11 a12 a13 a14 a15 n (sm_v b) (nI i)) (sm_L (sm_wt w p a1 bd) (fun j b => sm_k w j ≤ sm_k w b))
    cap 0 12 (Nat.zero_le _) sm_L0 (fun n b hI => pk_le cap cap (fun _ => H b hI) (fun z => absurd z (by omega))) ?_
  intro n i b hi hI hw
  have hw' : ∀ b', sm_L (sm_wt w p a1 bd) (fun j b => sm_k w j ≤ sm_k w b) (i + 1) b' → wX_bestWaitingAfter_4 post (sm_v bd) (nI cap) le fs ff tk a1 a2 a3 a4 a5 a6 a7 a8 a9 a10 a11 a12 a13 a14 a15 n (sm_v b') (nI (i + 1)) := hw
  have skip : ¬ sm_wt w p a1 bd i → ∀ x, x = nI i + 1 → wX_bestWaitingAfter_4 post (sm_v bd) (nI cap) le fs ff tk a1 a2 a3 a4 a5 a6 a7 a8 a9 a10 a11 a12 a13 a14 a15 n (sm_v b) x := fun no => nm_r (nI_1 i) (hw' b (sm_Lskip hI no))
  have new : sm_wt w p a1 bd i → (b < 12 → sm_k w b ≤ sm_k w i) → ∀ x, x = nI i + 1 → wX_bestWaitingAfter_4 post (sm_v bd) (nI cap) le fs ff tk a1 a2 a3 a4 a5 a6 a7 a8 a9 a10 a11 a12 a13 a14 a15 n (nI i) x := fun hD hb => nm_r (nI_1 i) (by
    have t := hw' i (sm_Lnew hI hD (Nat.le_refl _) (fun g j hj => Nat.le_trans hj (hb g)) (by omega))
    rw [sm_v1 (show i < 12 by omega)] at t
    exact t)
  have take : sm_wt w p a1 bd i → wX_bestWaitingAfter_43 post (wX_bestWaitingAfter_4 post (sm_v bd) (nI cap) le fs ff tk a1 a2 a3 a4 a5 a6 a7 a8 a9 a10 a11 a12 a13 a14 a15 n) (sm_v bd) (sm_v b) (nI i) (nI cap) le fs ff tk a1 a2 a3 a4 a5 a6 a7 a8 a9 a10 a11 a12 a13 a14 a15 := fun hD =>
    br_f (by decide) (sm_vlt b (fun g => new hD (fun q => by omega)) (fun g => sm_before i b hE (by omega) (by have := (sm_Llt hI g).1; omega) rfl (sm_v1 g)
      (fun q => br_f (by decide) (new hD (fun _ => by omega))) (fun q => br_t rfl (nm_r (nI_1 i) (hw' b (sm_Lkeep hI g (by omega)))))) rfl)
  refine pk_le cap i (fun z => absurd z (by omega)) (fun _ => ⟨pk_in i 8 (by omega), br_c (fun z => skip (fun g => g.1 ((sm_at rfl).symm.trans z))) (fun z => ⟨pk_in i 8 (by omega), sm_vge (p i) (fun g => skip (fun q => by have := q.2.1; omega)) (fun g => ?_) (sm_at (hS.1 i (by omega)).1)⟩)⟩)
  have hu : a1 i ≠ 0 := fun q => z (sm_at q)
  exact sm_vlt bd (fun g2 => take ⟨hu, g, fun q => by omega⟩) (fun g2 => sm_before bd i hE (hbd g2) (by omega) (sm_v1 g2) rfl (fun q => br_f (by decide) (take ⟨hu, g, fun _ => q⟩)) (fun q => br_t rfl (br_t rfl (skip (fun d => q (d.2.2 g2)))))) rfl
/-- the last in the order among those reached -/
theorem sm_leastR {post : Int32 → Prop} (hE : sm_E cap lo hi w rm a2 a3 a4 a5) (H : ∀ b, sm_L (fun j => a8 j ≠ 0) (fun j b => sm_k w b ≤ sm_k w j) cap b → post (sm_v b)) : wpX_leastReached post (nI cap, le, fs, ff, tk, a1, a2, a3, a4, a5, a6, a7, a8, a9, a10, a11, a12, a13, a14, a15) := by
  have hc := hE.1
  refine pk_loop (σ := Nat) (fun n i b => wX_leastReached_4 post (nI cap) le fs ff tk a1 a2 a3 a4 a5 a6 a7 a8 a9 a10 a11 a12 a13 a14 a15 n (sm_v b) (nI i)) (sm_L (fun j => a8 j ≠ 0) (fun j b => sm_k w b ≤ sm_k w j))
    cap 0 12 (Nat.zero_le _) sm_L0 (fun n b hI => pk_le cap cap (fun _ => H b hI) (fun z => absurd z (by omega))) ?_
  intro n i b hi hI hw
  have hw' : ∀ b', sm_L (fun j => a8 j ≠ 0) (fun j b => sm_k w b ≤ sm_k w j) (i + 1) b' → wX_leastReached_4 post (nI cap) le fs ff tk a1 a2 a3 a4 a5 a6 a7 a8 a9 a10 a11 a12 a13 a14 a15 n (sm_v b') (nI (i + 1)) := hw
  have new : a8 i ≠ 0 → (b < 12 → sm_k w i ≤ sm_k w b) → ∀ x, x = nI i + 1 → wX_leastReached_4 post (nI cap) le fs ff tk a1 a2 a3 a4 a5 a6 a7 a8 a9 a10 a11 a12 a13 a14 a15 n (nI i) x := fun hD hb => nm_r (nI_1 i) (by
    have t := hw' i (sm_Lnew hI hD (Nat.le_refl _) (fun g j hj => Nat.le_trans (hb g) hj) (by omega))
    rw [sm_v1 (show i < 12 by omega)] at t
    exact t)
  refine pk_le cap i (fun z => absurd z (by omega)) (fun _ => ⟨pk_in i 8 (by omega), br_c (fun z => nm_r (nI_1 i) (hw' b (sm_Lskip hI (fun g => g ((sm_at rfl).symm.trans z))))) (fun z => ?_)⟩)
  have hu : a8 i ≠ 0 := fun q => z (sm_at q)
  exact sm_vlt b (fun g => new hu (fun q => by omega)) (fun g => sm_before b i hE (by have := (sm_Llt hI g).1; omega) (by omega) (sm_v1 g) rfl
      (fun q => br_f (by decide) (new hu (fun _ => by omega))) (fun q => br_t rfl (nm_r (nI_1 i) (hw' b (sm_Lkeep hI g (by omega)))))) rfl
/-- priceAgainst: by the last in the order among the others reached -/
theorem sm_against {post : Int32 → Prop} {d : Nat} (hd : d < 8) (hE : sm_E cap lo hi w rm a2 a3 a4 a5)
    (H0 : (∀ j, j < cap → a8 j ≠ 0 → j = d) → post 21)
    (H1 : ∀ b, b < cap → b ≠ d → a8 b ≠ 0 → (∀ j, j < cap → a8 j ≠ 0 → j ≠ d → sm_k w b ≤ sm_k w j) → ∀ x : Nat, x ≤ 21 → (x ≤ w d ↔ sm_k w b < sm_k w d) → post (nI x)) : wpX_priceAgainst post (nI cap, le, fs, ff, tk, a1, a2, a3, a4, a5, a6, a7, a8, a9, a10, a11, a12, a13, a14, a15) (nI d) := by
  have hc := hE.1
  have h4 := hE.2.2.1
  refine pk_loop (σ := Nat) (fun n i b => wX_priceAgainst_4 post (nI d) (nI cap) le fs ff tk a1 a2 a3 a4 a5 a6 a7 a8 a9 a10 a11 a12 a13 a14 a15 n (sm_v b) (nI i)) (sm_L (fun j => a8 j ≠ 0 ∧ j ≠ d) (fun j b => sm_k w b ≤ sm_k w j))
    cap 0 12 (Nat.zero_le _) sm_L0 (fun n b hI => pk_le cap cap (fun _ => sm_vge b (fun g => ?_) (fun g => ?_) rfl) (fun z => absurd z (by omega))) ?_
  · obtain ⟨l1, l2, l3⟩ := sm_Llt hI g
    have hw := (h4 b (by omega)).1
    have l4 : ∀ j, j < cap → a8 j ≠ 0 → j ≠ d → sm_k w b ≤ sm_k w j := fun j x y z => l3 j x ⟨y, z⟩
    have hk : ∀ x, sm_k w x = 8 * w x + (7 - x) := fun x => rfl
    refine pk_le b d (fun q => ⟨pk_in b 8 (by omega) (sm_v1 g), ?_⟩) (fun q => ⟨pk_in b 8 (by omega) (sm_v1 g), ?_⟩) (sm_v1 g)
    · rw [sm_v1 g, sm_at (h4 b (by omega)).2, nI_1]
      exact H1 b l1 l2.2 l2.1 l4 _ (by omega) (by have := l2.2; rw [hk, hk]; omega)
    · rw [sm_v1 g, sm_at (h4 b (by omega)).2]
      exact H1 b l1 l2.2 l2.1 l4 _ (by omega) (by rw [hk, hk]; omega)
  · exact H0 (fun j hj h => by
      by_cases e : j = d
      · exact e
      · exact absurd ⟨h, e⟩ (sm_Lge hI (by omega) g j hj))
  intro n i b hi hI hw
  have hw' : ∀ b', sm_L (fun j => a8 j ≠ 0 ∧ j ≠ d) (fun j b => sm_k w b ≤ sm_k w j) (i + 1) b' → wX_priceAgainst_4 post (nI d) (nI cap) le fs ff tk a1 a2 a3 a4 a5 a6 a7 a8 a9 a10 a11 a12 a13 a14 a15 n (sm_v b') (nI (i + 1)) := hw
  have new : a8 i ≠ 0 → i ≠ d → (b < 12 → sm_k w i ≤ sm_k w b) → ∀ x, x = nI i + 1 → wX_priceAgainst_4 post (nI d) (nI cap) le fs ff tk a1 a2 a3 a4 a5 a6 a7 a8 a9 a10 a11 a12 a13 a14 a15 n (nI i) x := fun hD hD2 hb => nm_r (nI_1 i) (by
    have t := hw' i (sm_Lnew hI ⟨hD, hD2⟩ (Nat.le_refl _) (fun g j hj => Nat.le_trans (hb g) hj) (by omega))
    rw [sm_v1 (show i < 12 by omega)] at t
    exact t)
  refine pk_le cap i (fun z => absurd z (by omega)) (fun _ => ⟨pk_in i 8 (by omega), br_c (fun z => nm_r (nI_1 i) (hw' b (sm_Lskip hI (fun g => g.1 ((sm_at rfl).symm.trans z))))) (fun z => pk_eq i d (fun e => nm_r (nI_1 i) (hw' b (sm_Lskip hI (fun g => g.2 e)))) (fun e => ?_))⟩)
  have hu : a8 i ≠ 0 := fun q => z (sm_at q)
  exact sm_vlt b (fun g => new hu e (fun q => by omega)) (fun g => sm_before b i hE (by have := (sm_Llt hI g).1; omega) (by omega) (sm_v1 g) rfl
      (fun q => br_f (by decide) (new hu e (fun _ => by omega))) (fun q => br_t rfl (nm_r (nI_1 i) (hw' b (sm_Lkeep hI g (by omega)))))) rfl
/-- anyIn: one that sits at s -/
theorem sm_any {post : Int32 → Prop} {s : Nat} (hs : s < 12) (hE : sm_E cap lo hi w rm a2 a3 a4 a5) (hS : sm_S cap p a6 a7) (hl : 1 ≤ sm_ld p s) (H : ∀ i, i < cap → p i = s → post (nI i)) : wpX_anyIn post (nI cap, le, fs, ff, tk, a1, a2, a3, a4, a5, a6, a7, a8, a9, a10, a11, a12, a13, a14, a15) (nI s) := by
  have hc := hE.1
  refine pk_loop (σ := Unit) (fun n i _ => wX_anyIn_2 post (nI s) (nI cap) le fs ff tk a1 a2 a3 a4 a5 a6 a7 a8 a9 a10 a11 a12 a13 a14 a15 n (nI i)) (fun i _ => ∀ j, j < i → p j ≠ s) cap 0 () (Nat.zero_le _) (fun j hj => absurd hj (by omega)) ?_ ?_
  · intro n _ h
    have e : sm_ld p s = 0 := sm_s0 8 (fun i hi => sm_i0 (fun z => by
      rcases Nat.lt_or_ge i cap with q | q
      · exact h i q z
      · have := (hS.1 i hi).2 (by omega)
        omega))
    omega
  · intro n i _ hi h hw
    exact pk_le cap i (fun z => absurd z (by omega)) (fun _ => ⟨pk_in i 8 (by omega), sm_veq (p i) s hs (fun e => H i hi e) (fun e => nm_r (nI_1 i) (hw () (lt_s h e))) (sm_at (hS.1 i (by omega)).1)⟩)
end
end
section
/-- the search so far: n jobs on the line, ln 0 is d; each other one sits in the window of the one that opened it -/
def sm_B (cap : Nat) (lo hi p : Nat → Nat) (d n : Nat) (ln : Nat → Nat) (a8 a9 a10 : Nat → Int32) : Prop :=
  (1 ≤ n ∧ ln 0 = d ∧ a9 d = -1) ∧
  (∀ m, m < n → ln m < cap ∧ a8 (ln m) ≠ 0 ∧ a10 m = nI (ln m)) ∧
  (∀ i, i < 8 → a8 i ≠ 0 → ∃ m, m < n ∧ ln m = i) ∧
  (∀ m m', m < n → m' < n → ln m = ln m' → m = m') ∧
  (∀ m, 0 < m → m < n → ∃ m', m' < m ∧ a9 (ln m) = nI (ln m') ∧ p (ln m) < 12 ∧ lo (ln m') ≤ p (ln m) ∧ p (ln m) ≤ hi (ln m')) ∧
  n = sm_s (fun i => sm_i (a8 i ≠ 0)) 8
theorem sm_Bn {cap : Nat} {lo hi p : Nat → Nat} {d n : Nat} {ln : Nat → Nat} {a8 a9 a10 : Nat → Int32} (h : sm_B cap lo hi p d n ln a8 a9 a10) : n ≤ 8 := by
  obtain ⟨_, _, _, _, _, e⟩ := h
  have := sm_sl (f := fun i => sm_i (a8 i ≠ 0)) (g := fun _ => 1) 8 (fun i _ => sm_ib _)
  have e2 : sm_s (fun _ => 1) 8 = 8 := rfl
  omega
theorem sm_Bn7 {cap : Nat} {lo hi p : Nat → Nat} {d n i : Nat} {ln : Nat → Nat} {a8 a9 a10 : Nat → Int32} (h : sm_B cap lo hi p d n ln a8 a9 a10) (hi : i < 8) (h0 : a8 i = 0) : n < 8 := by
  obtain ⟨_, _, _, _, _, e⟩ := h
  have h1 := sm_s1 (f := fun j => sm_i (a8 j ≠ 0)) (g := fun j => sm_i (a8 j ≠ 0 ∨ j = i)) (k := i) 8 hi (fun j hj hne => sm_icg ⟨Or.inl, fun z => z.elim id (fun z => absurd z hne)⟩)
  have h2 : sm_i (a8 i ≠ 0 ∨ i = i) = 1 := sm_i1 (Or.inr rfl)
  have h3 : sm_i (a8 i ≠ 0) = 0 := sm_i0 (fun z => z h0)
  have h4 := sm_sl (f := fun j => sm_i (a8 j ≠ 0 ∨ j = i)) (g := fun _ => 1) 8 (fun i _ => sm_ib _)
  have e2 : sm_s (fun _ => 1) 8 = 8 := rfl
  have h5 : sm_s (fun j => sm_i (a8 j ≠ 0)) 8 + sm_i (a8 i ≠ 0 ∨ i = i) = sm_s (fun j => sm_i (a8 j ≠ 0 ∨ j = i)) 8 + sm_i (a8 i ≠ 0) := h1
  omega
theorem sm_Badd {cap : Nat} {lo hi p : Nat → Nat} {d n i mj : Nat} {ln : Nat → Nat} {a8 a9 a10 : Nat → Int32} (h : sm_B cap lo hi p d n ln a8 a9 a10) (hc : cap ≤ 7) (hic : i < cap) (h0 : a8 i = 0) (hm : mj < n) (hp : p i < 12) (hl : lo (ln mj) ≤ p i) (hh : p i ≤ hi (ln mj)) :
    sm_B cap lo hi p d (n + 1) (sm_u ln n i) (upd a8 i 1) (upd a9 i (nI (ln mj))) (upd a10 n (nI i)) := by
  obtain ⟨⟨b1, b2, b3⟩, b4, b5, b6, b7, b8⟩ := h
  have ne : ∀ m, m < n → ln m ≠ i := fun m hm z => (b4 m hm).2.1 (by rw [z]; exact h0)
  have old : ∀ m, m < n → sm_u ln n i m = ln m := fun m hm => sm_un (by omega)
  have h1 : ¬ (1 : Int32) = 0 := by decide
  refine ⟨⟨by omega, by rw [old 0 (by omega), b2], ?_⟩, fun m hm => ?_, fun j hj hr => ?_, fun m m' hm hm' e => ?_, fun m h0' hm' => ?_, ?_⟩
  · rw [pk_un (fun z => ne 0 (by omega) (b2.trans z))]; exact b3
  · by_cases e : m = n
    · subst e
      rw [sm_us, pk_us, pk_us]
      exact ⟨hic, h1, rfl⟩
    · rw [old m (by omega), pk_un (ne m (by omega)), pk_un e]
      exact b4 m (by omega)
  · by_cases e : j = i
    · subst e
      exact ⟨n, by omega, sm_us⟩
    · rw [pk_un e] at hr
      obtain ⟨m, hm, hl⟩ := b5 j hj hr
      exact ⟨m, by omega, by rw [old m hm]; exact hl⟩
  · by_cases e1 : m = n
    · by_cases e2 : m' = n
      · omega
      · rw [e1, sm_us, old m' (by omega)] at e
        exact absurd e.symm (ne m' (by omega))
    · by_cases e2 : m' = n
      · rw [e2, sm_us, old m (by omega)] at e
        exact absurd e (ne m (by omega))
      · rw [old m (by omega), old m' (by omega)] at e
        exact b6 m m' (by omega) (by omega) e
  · by_cases e : m = n
    · subst e
      refine ⟨mj, hm, ?_⟩
      rw [sm_us, pk_us, old mj hm]
      exact ⟨rfl, hp, hl, hh⟩
    · obtain ⟨m', q1, q2, q3⟩ := b7 m h0' (by omega)
      refine ⟨m', q1, ?_⟩
      rw [old m (by omega), old m' (by omega), pk_un (ne m (by omega))]
      exact ⟨q2, q3⟩
  · have e := sm_s1 (f := fun j => sm_i (upd a8 i 1 j ≠ 0)) (g := fun j => sm_i (a8 j ≠ 0)) (k := i) 8 (by omega) (fun j hj hne => sm_icg (by rw [pk_un hne]))
    have e2 : sm_s (fun j => sm_i (upd a8 i 1 j ≠ 0)) 8 + sm_i (a8 i ≠ 0) = sm_s (fun j => sm_i (a8 j ≠ 0)) 8 + sm_i (upd a8 i 1 i ≠ 0) := e
    rw [sm_i0 (P := a8 i ≠ 0) (fun z => z h0), sm_i1 (P := upd a8 i 1 i ≠ 0) (by rw [pk_us]; exact h1)] at e2
    omega
/-- the line grows at its end alone -/
def sm_gr (n : Nat) (ln : Nat → Nat) (n' : Nat) (ln' : Nat → Nat) : Prop := n ≤ n' ∧ ∀ m, m < n → ln' m = ln m
theorem sm_gr0 (n : Nat) (ln : Nat → Nat) : sm_gr n ln n ln := ⟨Nat.le_refl _, fun _ _ => rfl⟩
theorem sm_grt {n n1 n2 : Nat} {l l1 l2 : Nat → Nat} (h : sm_gr n l n1 l1) (h' : sm_gr n1 l1 n2 l2) : sm_gr n l n2 l2 := ⟨Nat.le_trans h.1 h'.1, fun m hm => by
  have := h.1
  rw [h'.2 m (by omega), h.2 m hm]⟩
theorem sm_grk {cap : Nat} {lo hi p : Nat → Nat} {d n n' : Nat} {ln ln' : Nat → Nat} {a8 a9 a10 b8 b9 b10 : Nat → Int32} (h : sm_B cap lo hi p d n ln a8 a9 a10) (h' : sm_B cap lo hi p d n' ln' b8 b9 b10) (g : sm_gr n ln n' ln') {i : Nat} (hi : i < 8) (hr : a8 i ≠ 0) : b8 i ≠ 0 := by
  obtain ⟨m, hm, e⟩ := h.2.2.1 i hi hr
  have := g.1
  have q := (h'.2.1 m (by omega)).2.1
  rw [g.2 m hm, e] at q
  exact q
section
variable {cap : Nat} {lo hi w rm p : Nat → Nat} {le fs ff tk : Int32} {a1 a2 a3 a4 a5 a6 a7 a8 a9 a10 a11 a12 a13 a14 a15 : Nat → Int32}
theorem sm_rsl {post : St1 → Prop} {d mj s j : Nat} (hc : cap ≤ 7) (hS : sm_S cap p a6 a7) (hs : s < 12) (hls : lo j ≤ s) (hhs : s ≤ hi j) {n0 : Nat} {l0 : Nat → Nat} (hm : mj < n0) (hj : l0 mj = j) (hj8 : j < 8)
    (H : ∀ n ln a8 a9 a10, sm_B cap lo hi p d n ln a8 a9 a10 → sm_gr n0 l0 n ln → (∀ i, i < cap → p i = s → a8 i ≠ 0) → post (nI cap, nI n, fs, ff, tk, a1, a2, a3, a4, a5, a6, a7, a8, a9, a10, a11, a12, a13, a14, a15)) :
    ∀ (f i n : Nat) (ln : Nat → Nat) (a8 a9 a10 : Nat → Int32), i ≤ cap → cap < f + i → sm_B cap lo hi p d n ln a8 a9 a10 → sm_gr n0 l0 n ln → (∀ k, k < i → p k = s → a8 k ≠ 0) →
      wX_reachSitters_2 post (nI s) (nI j) (nI cap) fs ff tk f (nI i) (nI n) a1 a2 a3 a4 a5 a6 a7 a8 a9 a10 a11 a12 a13 a14 a15 := by
  intro f
  induction f with
  | zero => intro i n ln a8 a9 a10 h1 h2; omega
  | succ f ih =>
    intro i n ln a8 a9 a10 h1 h2 hB hg hk
    have hn := sm_Bn hB
    refine pk_le cap i (fun z => H n ln a8 a9 a10 hB hg (fun k hk' => hk k (by omega))) (fun z => ⟨pk_in i 8 (by omega), sm_veq (p i) s hs (fun e => ⟨pk_in i 8 (by omega), br_c (fun q => ?_) (fun q => ?_)⟩) (fun e => ?_) (sm_at (hS.1 i (by omega)).1)⟩)
    · have h0 : a8 i = 0 := (sm_at rfl).symm.trans q
      have hn7 := sm_Bn7 hB (show i < 8 by omega) h0
      have hjl : ln mj = j := by rw [hg.2 mj hm]; exact hj
      have hmn : mj < n := by have := hg.1; omega
      have hB' := sm_Badd hB hc z h0 hmn (by omega) (by rw [hjl]; omega) (by rw [hjl]; omega)
      refine pk_le 8 n (fun g => absurd g (by omega)) (fun g => ⟨pk_in i 8 (by omega), nm_r (by rw [nI_clamp (by omega)]) ⟨pk_in i 8 (by omega), nm_r (by rw [nI_clamp (by omega), sm_b8 j (by omega)]) ⟨pk_in n 8 hn7, nm_r (by rw [nI_clamp (by omega), sm_b8 i (by omega)]) (nm_r (nI_1 n) (nm_r (nI_1 i) (ih (i + 1) (n + 1) (sm_u ln n i) _ _ _ (by omega) (by omega) (hjl ▸ hB') ?_ ?_)))⟩⟩⟩)
      · exact ⟨by have := hg.1; omega, fun m hm' => by rw [sm_un (by have := hg.1; omega)]; exact hg.2 m hm'⟩
      · refine lt_s (fun k hk' e' => ?_) (fun _ => by rw [pk_us]; decide)
        rw [pk_un (by omega)]; exact hk k hk' e'
    · exact nm_r (nI_1 i) (ih (i + 1) n ln a8 a9 a10 (by omega) (by omega) hB hg (lt_s hk (fun _ g => q (sm_at g))))
    · exact nm_r (nI_1 i) (ih (i + 1) n ln a8 a9 a10 (by omega) (by omega) hB hg (lt_s hk (fun g => absurd g e)))
theorem sm_rs {post : St1 → Prop} {d mj s j n : Nat} {ln : Nat → Nat} (hc : cap ≤ 7) (hS : sm_S cap p a6 a7) (hs : s < 12) (hls : lo j ≤ s) (hhs : s ≤ hi j) (hB : sm_B cap lo hi p d n ln a8 a9 a10) (hm : mj < n) (hj : ln mj = j)
    (H : ∀ n' ln' a8 a9 a10, sm_B cap lo hi p d n' ln' a8 a9 a10 → sm_gr n ln n' ln' → (∀ i, i < cap → p i = s → a8 i ≠ 0) → post (nI cap, nI n', fs, ff, tk, a1, a2, a3, a4, a5, a6, a7, a8, a9, a10, a11, a12, a13, a14, a15)) : wpX_reachSitters post (nI cap, nI n, fs, ff, tk, a1, a2, a3, a4, a5, a6, a7, a8, a9, a10, a11, a12, a13, a14, a15) (nI s) (nI j) :=
  ⟨cap + 1, sm_rsl hc hS hs hls hhs hm hj (by have := (hB.2.1 mj hm).1; omega) H (cap + 1) 0 n ln a8 a9 a10 (Nat.zero_le _) (by omega) hB (sm_gr0 n ln) (fun k hk => absurd hk (by omega))⟩
/-- look: a free place, or all of the window seen -/
theorem sm_lookl {post : St1 → Prop} {d mj j : Nat} (hE : sm_E cap lo hi w rm a2 a3 a4 a5) (hS : sm_S cap p a6 a7) (hjc : j < cap) {n0 : Nat} {l0 : Nat → Nat} (hm : mj < n0) (hj : l0 mj = j)
    (H1 : ∀ n ln a8 a9 a10 t, sm_B cap lo hi p d n ln a8 a9 a10 → sm_gr n0 l0 n ln → t < 12 → sm_ld p t < rm t → lo j ≤ t → t ≤ hi j → post (nI cap, nI n, nI t, nI j, tk, a1, a2, a3, a4, a5, a6, a7, a8, a9, a10, a11, a12, a13, a14, a15))
    (H0 : ∀ n ln a8 a9 a10, sm_B cap lo hi p d n ln a8 a9 a10 → sm_gr n0 l0 n ln → (∀ s, lo j ≤ s → s ≤ hi j → rm s ≤ sm_ld p s ∧ ∀ i, i < cap → p i = s → a8 i ≠ 0) → post (nI cap, nI n, -1, ff, tk, a1, a2, a3, a4, a5, a6, a7, a8, a9, a10, a11, a12, a13, a14, a15)) :
    ∀ (f s n : Nat) (ln : Nat → Nat) (a8 a9 a10 : Nat → Int32), lo j ≤ s → s ≤ 12 → 12 < f + s → sm_B cap lo hi p d n ln a8 a9 a10 → sm_gr n0 l0 n ln → (∀ k, lo j ≤ k → k < s → rm k ≤ sm_ld p k ∧ ∀ i, i < cap → p i = k → a8 i ≠ 0) →
      wX_look_7 post (nI j) f (nI s) (nI cap) (nI n) (-1) ff tk a1 a2 a3 a4 a5 a6 a7 a8 a9 a10 a11 a12 a13 a14 a15 := by
  obtain ⟨hc, h23, h4, h5⟩ := hE
  intro f
  induction f with
  | zero => intro s n ln a8 a9 a10 h1 h2 h3; omega
  | succ f ih =>
    intro s n ln a8 a9 a10 h1 h2 h3 hB hg hk
    have hh := (h23 j (by omega)).1
    have hl := sm_ldb (p := p) (s := s)
    refine ⟨pk_in j 8 (by omega), pk_lt (hi j) s (fun z => H0 n ln a8 a9 a10 hB hg (fun k q1 q2 => hk k q1 (by omega))) (fun z => br_f (by decide) ⟨pk_in s 12 (by omega), pk_in s 12 (by omega), ?_⟩) (sm_at (h23 j (by omega)).2.2.2)⟩
    have hr := h5 s (by omega)
    refine pk_le (rm s) (sm_ld p s) (fun q => ?_) (fun q => nm_r (nI_1 s) ?_) (sm_at hr.2) (sm_at (hS.2 s (by omega)))
    · refine sm_rs hc hS (by omega) h1 z hB (mj := mj) (by have := hg.1; omega) (by rw [hg.2 mj hm]; exact hj) (fun n' ln' b8 b9 b10 hB' hg' hk' => nm_r (nI_1 s) (ih (s + 1) n' ln' b8 b9 b10 (by omega) (by omega) (by omega) hB' (sm_grt hg hg') (fun k q1 q2 => ?_)))
      by_cases e : k = s
      · subst e; exact ⟨q, hk'⟩
      · obtain ⟨x1, x2⟩ := hk k q1 (by omega)
        exact ⟨x1, fun i hi' e' => sm_grk hB hB' hg' (by omega) (x2 i hi' e')⟩
    · cases f with
      | zero => omega
      | succ f => exact ⟨pk_in j 8 (by omega), br_c (fun _ => H1 n ln a8 a9 a10 s hB hg (by omega) q h1 z) (fun _ => br_t (nI_pos' (by omega)) (H1 n ln a8 a9 a10 s hB hg (by omega) q h1 z))⟩
theorem sm_look {post : St1 → Prop} {d mj j n : Nat} {ln : Nat → Nat} (hE : sm_E cap lo hi w rm a2 a3 a4 a5) (hS : sm_S cap p a6 a7) (hB : sm_B cap lo hi p d n ln a8 a9 a10) (hm : mj < n) (hj : ln mj = j)
    (H1 : ∀ n' ln' a8 a9 a10 t, sm_B cap lo hi p d n' ln' a8 a9 a10 → sm_gr n ln n' ln' → t < 12 → sm_ld p t < rm t → lo j ≤ t → t ≤ hi j → post (nI cap, nI n', nI t, nI j, tk, a1, a2, a3, a4, a5, a6, a7, a8, a9, a10, a11, a12, a13, a14, a15))
    (H0 : ∀ n' ln' a8 a9 a10, sm_B cap lo hi p d n' ln' a8 a9 a10 → sm_gr n ln n' ln' → (∀ s, lo j ≤ s → s ≤ hi j → rm s ≤ sm_ld p s ∧ ∀ i, i < cap → p i = s → a8 i ≠ 0) → post (nI cap, nI n', -1, ff, tk, a1, a2, a3, a4, a5, a6, a7, a8, a9, a10, a11, a12, a13, a14, a15)) : wpX_look post (nI cap, nI n, -1, ff, tk, a1, a2, a3, a4, a5, a6, a7, a8, a9, a10, a11, a12, a13, a14, a15) (nI j) := by
  have hjc : j < cap := hj ▸ (hB.2.1 mj hm).1
  have hc := hE.1
  have h2 := hE.2.1 j (by omega)
  exact ⟨pk_in j 8 (by omega), nm_r (sm_at h2.2.2.1) ⟨13, sm_lookl hE hS hjc hm hj H1 H0 13 (lo j) n ln a8 a9 a10 (Nat.le_refl _) (by omega) (by omega) hB (sm_gr0 n ln) (fun k q1 q2 => absurd q2 (by omega))⟩⟩
end
end
section
section
variable {cap : Nat} {lo hi w rm p : Nat → Nat} {le fs ff tk : Int32} {a1 a2 a3 a4 a5 a6 a7 a8 a9 a10 a11 a12 a13 a14 a15 : Nat → Int32}
theorem sm_shl {post : St1 → Prop} {d n : Nat} {ln p0 : Nat → Nat} (hc : cap ≤ 7) (hB : sm_B cap lo hi p0 d n ln a8 a9 a10) (hpd : 12 ≤ p0 d)
    (H : ∀ p' a6 a7, sm_S cap p' a6 a7 → sm_M lo hi rm p' → sm_A p0 p' d → post (nI cap, le, fs, ff, tk, a1, a2, a3, a4, a5, a6, a7, a8, a9, a10, a11, a12, a13, a14, a15)) :
    ∀ (f m k t : Nat) (p : Nat → Nat) (a6 a7 : Nat → Int32), m < n → k + m < 8 → m + 1 < f → (∀ m', m' ≤ m → p (ln m') = p0 (ln m')) → sm_S cap p a6 a7 → sm_M lo hi rm p → t < 12 → sm_ld p t < rm t → lo (ln m) ≤ t → t ≤ hi (ln m) → (∀ i, i < 8 → (p i < 12 ↔ p0 i < 12)) →
      wX_shift_12 post f (nI (ln m)) (nI t) (nI k) (nI cap) le fs ff tk a1 a2 a3 a4 a5 a6 a7 a8 a9 a10 a11 a12 a13 a14 a15 := by
  obtain ⟨⟨b1, b2, b3⟩, b4, b5, b6, b7, b8⟩ := hB
  intro f
  induction f with
  | zero => intro m k t p a6 a7 _ _ h; omega
  | succ f ih =>
    intro m k t p a6 a7 hm hk hf hs hS hM ht hlt hw1 hw2 hpl
    have hj := (b4 m hm).1
    have hj8 : ln m < 8 := by omega
    have e2 : ∀ i, i ≠ ln m → sm_u (sm_u p (ln m) 12) (ln m) t i = p i := fun i hne => by rw [sm_un hne, sm_un hne]
    have hl : ∀ s, sm_ld (sm_u (sm_u p (ln m) 12) (ln m) t) s + sm_i (p (ln m) = s) = sm_ld p s + sm_i (t = s) := fun s => by
      have := sm_ldc (p := p) (p' := sm_u (sm_u p (ln m) 12) (ln m) t) hj8 (fun i _ hne => e2 i hne) s
      rw [sm_us] at this
      exact this
    have hM2 : sm_M lo hi rm (sm_u (sm_u p (ln m) 12) (ln m) t) := by
      refine ⟨fun i hi h => ?_, fun s hs' => ?_⟩
      · by_cases e : i = ln m
        · rw [e, sm_us]; exact ⟨hw1, hw2⟩
        · rw [e2 i e] at h ⊢
          exact hM.1 i hi h
      · have h1 := hl s
        have h2 := hM.2 s hs'
        by_cases e : t = s
        · subst e
          rw [sm_i1 (P := t = t) rfl] at h1
          omega
        · rw [sm_i0 e] at h1
          omega
    refine pk_le 8 k (fun z => absurd z (by omega)) (fun z => br_f (nI_pos (by omega)) ⟨pk_in (ln m) 8 hj8, nm_r (sm_at (hS.1 (ln m) hj8).1) ?_⟩)
    refine sm_vacate hj8 hS (fun c6 c7 hS1 => sm_sitt hj hc ht (by rw [sm_us]; exact Nat.le_refl _) hS1 (fun e6 e7 hS2 => ⟨pk_in (ln m) 8 hj8, ?_⟩))
    by_cases e0 : m = 0
    · subst e0
      refine nm_r (sm_at (show a9 (ln 0) = -1 by rw [b2]; exact b3)) (nm_r (nI_1 k) ?_)
      have fin : post (nI cap, le, fs, ff, tk, a1, a2, a3, a4, a5, e6, e7, a8, a9, a10, a11, a12, a13, a14, a15) := H _ e6 e7 hS2 hM2 (fun i hi => by
        by_cases e : i = ln 0
        · rw [e, sm_us]
          exact ⟨fun _ => Or.inr b2, fun _ => ht⟩
        · rw [e2 i e, hpl i hi]
          exact ⟨Or.inl, fun z => z.elim id (fun z => absurd (z.trans b2.symm) e)⟩)
      cases f with
      | zero => omega
      | succ f => exact br_c (fun _ => fin) (fun _ => br_t (by decide) fin)
    · obtain ⟨m', q1, q2, q3, q4, q5⟩ := b7 m (by omega) hm
      have hpm := hs m (Nat.le_refl _)
      have hne : ∀ x, x ≤ m' → ln x ≠ ln m := fun x hx e => by
        have := b6 x m (by omega) hm e
        omega
      refine nm_r (sm_at q2) (nm_r (nI_1 k) ?_)
      rw [hpm, sm_v1 q3]
      refine ih m' (k + 1) (p0 (ln m)) _ e6 e7 (by omega) (by omega) (by omega) (fun x hx => ?_) hS2 hM2 q3 ?_ q4 q5 (fun i hi => ?_)
      · rw [e2 _ (hne x hx)]
        exact hs x (by omega)
      · have h1 := hl (p0 (ln m))
        have h2 := hM.2 (p0 (ln m)) q3
        rw [sm_i1 hpm] at h1
        by_cases e : t = p0 (ln m)
        · rw [sm_i1 e] at h1
          rw [← e] at h1 ⊢
          omega
        · rw [sm_i0 e] at h1
          omega
      · by_cases e : i = ln m
        · rw [e, sm_us]
          exact ⟨fun _ => q3, fun _ => ht⟩
        · rw [e2 i e]; exact hpl i hi
/-- what the search gives -/
theorem sm_BF {d n : Nat} {ln : Nat → Nat} (hM : sm_M lo hi rm p) (hS : sm_S cap p a6 a7) (hB : sm_B cap lo hi p d n ln a8 a9 a10) (hh : ∀ i, i < 8 → hi i < 12) (hc : cap ≤ 7)
    (hk : ∀ m, m < n → ∀ s, lo (ln m) ≤ s → s ≤ hi (ln m) → rm s ≤ sm_ld p s ∧ ∀ i, i < cap → p i = s → a8 i ≠ 0) :
    ∃ R, sm_F lo hi rm p d R ∧ ∀ i, i < 8 → (a8 i ≠ 0 ↔ i = d ∨ (p i < 12 ∧ R (p i))) := by
  obtain ⟨⟨b1, b2, b3⟩, b4, b5, b6, b7, b8⟩ := hB
  have reach : ∀ i, i < 8 → p i < 12 → (∃ m, m < n ∧ lo (ln m) ≤ p i ∧ p i ≤ hi (ln m)) → a8 i ≠ 0 := fun i hi hp ⟨m, hm, q1, q2⟩ => (hk m hm (p i) q1 q2).2 i ((hS.1 i hi).2 hp) rfl
  refine ⟨fun s => ∃ m, m < n ∧ lo (ln m) ≤ s ∧ s ≤ hi (ln m), ⟨fun s q1 q2 => ⟨0, by omega, by rw [b2]; exact q1, by rw [b2]; exact q2⟩, fun s hs ⟨m, hm, q1, q2⟩ => ?_, fun i hi hp hR => ?_, fun Q hQ hK s hs ⟨m, hm, q1, q2⟩ => ?_⟩, fun i hi => ⟨fun hr => ?_, fun hr => ?_⟩⟩
  · have h1 := (hk m hm s q1 q2).1
    have h2 := hM.2 s hs
    omega
  · obtain ⟨m, hm, e⟩ := b5 i hi (reach i hi hp hR)
    subst e
    exact fun s q1 q2 => ⟨m, hm, q1, q2⟩
  · have all : ∀ x m, m ≤ x → m < n → sm_w lo hi (ln m) Q := by
      intro x
      induction x with
      | zero => intro m hx hm; rw [show m = 0 by omega, b2]; exact hQ
      | succ x ih =>
        intro m hx hm
        by_cases e0 : m = 0
        · rw [e0, b2]; exact hQ
        · obtain ⟨m', g1, g2, g3, g4, g5⟩ := b7 m (by omega) hm
          have h4 := (b4 m hm).1
          exact hK (ln m) (by omega) g3 (ih m' (by omega) (by omega) _ g4 g5)
    exact all m m (Nat.le_refl _) hm s q1 q2
  · obtain ⟨m, hm, e⟩ := b5 i hi hr
    by_cases e0 : m = 0
    · rw [e0, b2] at e
      exact Or.inl e.symm
    · obtain ⟨m', g1, g2, g3, g4, g5⟩ := b7 m (by omega) hm
      rw [e] at g3 g4 g5
      exact Or.inr ⟨g3, m', by omega, g4, g5⟩
  · rcases hr with e | ⟨h1, h2⟩
    · have := (b4 0 (by omega)).2.1
      rw [b2, ← e] at this
      exact this
    · exact reach i hi h1 h2
theorem sm_pll {post : Int32 → St1 → Prop} {d : Nat} (hE : sm_E cap lo hi w rm a2 a3 a4 a5) (hS : sm_S cap p a6 a7) (hM : sm_M lo hi rm p) (hpd : 12 ≤ p d)
    (H1 : ∀ le fs ff p' a6 a7 a8 a9 a10, sm_S cap p' a6 a7 → sm_M lo hi rm p' → sm_A p p' d → post 1 (nI cap, le, fs, ff, tk, a1, a2, a3, a4, a5, a6, a7, a8, a9, a10, a11, a12, a13, a14, a15))
    (H0 : ∀ le fs ff a8 a9 a10 R, sm_F lo hi rm p d R → (∀ i, i < 8 → (a8 i ≠ 0 ↔ i = d ∨ (p i < 12 ∧ R (p i)))) → post 0 (nI cap, le, fs, ff, tk, a1, a2, a3, a4, a5, a6, a7, a8, a9, a10, a11, a12, a13, a14, a15)) :
    ∀ (f k n : Nat) (ln : Nat → Nat) (ff : Int32) (a8 a9 a10 : Nat → Int32), k ≤ 8 → 9 < f + k → sm_B cap lo hi p d n ln a8 a9 a10 →
      (∀ m, m < k → m < n → ∀ s, lo (ln m) ≤ s → s ≤ hi (ln m) → rm s ≤ sm_ld p s ∧ ∀ i, i < cap → p i = s → a8 i ≠ 0) → wX_place_55 post f (nI k) (nI cap) (nI n) (-1) ff tk a1 a2 a3 a4 a5 a6 a7 a8 a9 a10 a11 a12 a13 a14 a15 := by
  have hc := hE.1
  intro f
  induction f with
  | zero => intro k n ln ff a8 a9 a10 h1 h2; omega
  | succ f ih =>
    intro k n ln ff a8 a9 a10 h1 h2 hB hk
    have hn := sm_Bn hB
    have fail : n ≤ k → wX_place_92 post (nI cap) (nI n) (-1) ff tk a1 a2 a3 a4 a5 a6 a7 a8 a9 a10 a11 a12 a13 a14 a15 := fun z => by
      obtain ⟨R, r1, r2⟩ := sm_BF hM hS hB (fun i hi => (hE.2.1 i hi).1) hc (fun m hm => hk m (by omega) hm)
      exact br_f (by decide) (H0 _ _ _ a8 a9 a10 R r1 r2)
    refine pk_le n k (fun z => fail z) (fun z => pk_le 8 k (fun y => absurd y (by omega)) (fun y => br_f (by decide) ⟨pk_in k 8 y, ?_⟩))
    have hb := hB.2.1 k z
    rw [sm_at (a := a10) (n := k) hb.2.2]
    refine sm_look hE hS hB z rfl (fun n' ln' b8 b9 b10 t hB' hg ht hlt q1 q2 => nm_r (nI_1 k) ?_) (fun n' ln' b8 b9 b10 hB' hg hk' => nm_r (nI_1 k) ?_)
    · have hn' := sm_Bn hB'
      have hg1 := hg.1
      have hg2 := hg.2 k z
      have sh : wX_place_92 post (nI cap) (nI n') (nI t) (nI (ln k)) tk a1 a2 a3 a4 a5 a6 a7 b8 b9 b10 a11 a12 a13 a14 a15 := br_t (nI_pos' (by omega)) ⟨10, by
        have := sm_shl (rm := rm) (le := nI n') (fs := nI t) (ff := nI (ln k)) (tk := tk) (a1 := a1) (a2 := a2) (a3 := a3) (a4 := a4) (a5 := a5) (a11 := a11) (a12 := a12) (a13 := a13) (a14 := a14) (a15 := a15) (post := fun u => post 1 u) hc hB' hpd (fun p' c6 c7 s1 s2 s3 => H1 _ _ _ p' c6 c7 b8 b9 b10 s1 s2 s3) 10 k 0 t p a6 a7 (by omega) (by omega) (by omega) (fun _ _ => rfl) hS hM ht hlt (by rw [hg2]; exact q1) (by rw [hg2]; exact q2) (fun _ _ => Iff.rfl)
        rw [hg2] at this
        exact this⟩
      cases f with
      | zero => omega
      | succ f => exact br_c (fun _ => sh) (fun _ => br_c (fun _ => sh) (fun _ => br_t (nI_pos' (by omega)) sh))
    · refine ih (k + 1) n' ln' ff b8 b9 b10 (by omega) (by omega) hB' (fun m hm hmn s q1 q2 => ?_)
      have hg1 := hg.1
      by_cases e : m = k
      · subst e
        rw [hg.2 m z] at q1 q2
        exact hk' s q1 q2
      · rw [hg.2 m (by omega)] at q1 q2
        obtain ⟨x1, x2⟩ := hk m (by omega) (by omega) s q1 q2
        exact ⟨x1, fun i hi' e' => sm_grk hB hB' hg (by omega) (x2 i hi' e')⟩
/-- place: a chain, or the closed set that shows there is none -/
theorem sm_place {post : Int32 → St1 → Prop} {d : Nat} (hE : sm_E cap lo hi w rm a2 a3 a4 a5) (hS : sm_S cap p a6 a7) (hM : sm_M lo hi rm p) (hd : d < cap) (hpd : 12 ≤ p d)
    (H1 : ∀ le fs ff p' a6 a7 a8 a9 a10, sm_S cap p' a6 a7 → sm_M lo hi rm p' → sm_A p p' d → post 1 (nI cap, le, fs, ff, tk, a1, a2, a3, a4, a5, a6, a7, a8, a9, a10, a11, a12, a13, a14, a15))
    (H0 : ∀ le fs ff a8 a9 a10 R, sm_F lo hi rm p d R → (∀ i, i < 8 → (a8 i ≠ 0 ↔ i = d ∨ (p i < 12 ∧ R (p i)))) → post 0 (nI cap, le, fs, ff, tk, a1, a2, a3, a4, a5, a6, a7, a8, a9, a10, a11, a12, a13, a14, a15)) : wpX_place post (nI cap, le, fs, ff, tk, a1, a2, a3, a4, a5, a6, a7, a8, a9, a10, a11, a12, a13, a14, a15) (nI d) := by
  have hc := hE.1
  refine pk_loop (fun n i b8 => wX_place_2 post (nI d) (nI cap) le fs ff tk n (nI i) a1 a2 a3 a4 a5 a6 a7 b8 a9 a10 a11 a12 a13 a14 a15) (fun i b8 => ∀ j, j < i → b8 j = 0) 8 0 a8 (by omega) (fun j hj => absurd hj (by omega)) ?_ ?_
  · intro n b8 hb
    refine pk_le 8 8 (fun _ => ⟨pk_in d 8 (by omega), nm_r (by rw [nI_clamp (by omega)]) ⟨pk_in d 8 (by omega), nm_r (by rw [nI_clamp (by omega)]) (nm_r (by rw [sm_b8 d (by omega)]) ⟨10, ?_⟩)⟩⟩) (fun z => absurd z (by omega))
    refine sm_pll hE hS hM hpd H1 H0 10 0 1 (fun _ => d) ff _ _ _ (by omega) (by omega) ?_ (fun m hm => absurd hm (by omega))
    refine ⟨⟨Nat.le_refl _, rfl, pk_us⟩, fun m hm => ⟨hd, by rw [pk_us]; decide, by rw [show m = 0 by omega, pk_us]⟩, fun i hi hr => ⟨0, by omega, ?_⟩, fun m m' hm hm' _ => by omega, fun m h0 hm => absurd hm (by omega), ?_⟩
    · by_cases e : i = d
      · exact e.symm
      · rw [pk_un e] at hr
        exact absurd (hb i hi) hr
    · have e := sm_s1 (f := fun j => sm_i (upd b8 d 1 j ≠ 0)) (g := fun _ => 0) (k := d) 8 (by omega) (fun j hj hne => sm_i0 (by rw [pk_un hne]; exact fun z => z (hb j hj)))
      have e2 : sm_s (fun j => sm_i (upd b8 d 1 j ≠ 0)) 8 + 0 = sm_s (fun _ => 0) 8 + sm_i (upd b8 d 1 d ≠ 0) := e
      have e3 : sm_s (fun _ => 0) 8 = 0 := rfl
      rw [sm_i1 (P := upd b8 d 1 d ≠ 0) (by rw [pk_us]; decide)] at e2
      omega
  · intro n i b8 hi hb hw
    refine pk_le 8 i (fun z => absurd z (by omega)) (fun _ => ⟨pk_in i 8 hi, nm_r (by rw [nI_clamp (by omega)]) (nm_r (nI_1 i) (hw (upd b8 i 0) (lt_s (fun j hj => ?_) pk_us)))⟩)
    rw [pk_un (by omega)]; exact hb j hj
end
end
section
theorem sm_sinc {f g : Nat → Nat} {k : Nat} : ∀ n, (∀ i, i < n → f i ≤ g i) → k < n → f k + 1 ≤ g k → sm_s f n + 1 ≤ sm_s g n := by
  intro n
  induction n with
  | zero => intro _ hk; omega
  | succ n ih =>
    intro h hk hf
    show sm_s f n + f n + 1 ≤ sm_s g n + g n
    by_cases e : k = n
    · subst e
      have := sm_sl k (fun i hi => h i (by omega))
      omega
    · have := ih (fun i hi => h i (by omega)) (by omega) hf
      have := h n (by omega)
      omega
theorem sm_sk : ∀ n, sm_s (fun _ => 1) n = n := by
  intro n
  induction n with
  | zero => rfl
  | succ n ih =>
    show sm_s (fun _ => 1) n + 1 = n + 1
    rw [ih]
/-- saved seats and loads -/
def sm_Sv (p : Nat → Nat) (a11 a12 : Nat → Int32) : Prop := (∀ i, i < 8 → a11 i = sm_v (p i)) ∧ (∀ s, s < 12 → a12 s = nI (sm_ld p s))
section
variable {cap : Nat} {lo hi w rm p : Nat → Nat} {le fs ff tk : Int32} {a1 a2 a3 a4 a5 a6 a7 a8 a9 a10 a11 a12 a13 a14 a15 : Nat → Int32}
theorem sm_place' {post : Int32 → St1 → Prop} {d : Nat} {x : Int32} (hx : x = nI d) (hE : sm_E cap lo hi w rm a2 a3 a4 a5) (hS : sm_S cap p a6 a7) (hM : sm_M lo hi rm p) (hd : d < cap) (hpd : 12 ≤ p d)
    (H1 : ∀ le fs ff p' a6 a7 a8 a9 a10, sm_S cap p' a6 a7 → sm_M lo hi rm p' → sm_A p p' d → post 1 (nI cap, le, fs, ff, tk, a1, a2, a3, a4, a5, a6, a7, a8, a9, a10, a11, a12, a13, a14, a15))
    (H0 : ∀ le fs ff a8 a9 a10 R, sm_F lo hi rm p d R → (∀ i, i < 8 → (a8 i ≠ 0 ↔ i = d ∨ (p i < 12 ∧ R (p i)))) → post 0 (nI cap, le, fs, ff, tk, a1, a2, a3, a4, a5, a6, a7, a8, a9, a10, a11, a12, a13, a14, a15)) : wpX_place post (nI cap, le, fs, ff, tk, a1, a2, a3, a4, a5, a6, a7, a8, a9, a10, a11, a12, a13, a14, a15) x := by
  subst hx
  exact sm_place hE hS hM hd hpd H1 H0
theorem sm_fdone {post : St1 → Prop} {x2 x3 : Int32} {f : Nat} (h : post (nI cap, le, fs, ff, tk, a1, a2, a3, a4, a5, a6, a7, a8, a9, a10, a11, a12, a13, a14, a15)) : wX_fillFromBest_6 post (f + 1) 1 x2 x3 (nI cap) le fs ff tk a1 a2 a3 a4 a5 a6 a7 a8 a9 a10 a11 a12 a13 a14 a15 := br_c (fun _ => h) (fun _ => br_f (by decide) h)
theorem sm_filll {post : St1 → Prop} (hE : sm_E cap lo hi w rm a2 a3 a4 a5) (hS : sm_S cap p a6 a7) (hM : sm_M lo hi rm p)
    (H : ∀ le fs ff p' a6 a7 a8 a9 a10, sm_S cap p' a6 a7 → sm_N lo hi rm p (sm_k w) (fun j => j < cap ∧ a1 j ≠ 0) p' → post (nI cap, le, fs, ff, tk, a1, a2, a3, a4, a5, a6, a7, a8, a9, a10, a11, a12, a13, a14, a15)) :
    ∀ (f k bd : Nat) (le fs ff : Int32) (a8 a9 a10 : Nat → Int32), k ≤ cap → cap + 1 < f + k → (bd < 12 → bd < cap) → (∀ j, j < cap → a1 j ≠ 0 → 12 ≤ p j → bd < 12 → sm_k w bd ≤ sm_k w j → ∃ R, sm_F lo hi rm p j R) →
      k ≤ sm_s (fun j => sm_i (bd < 12 ∧ sm_k w bd ≤ sm_k w j ∧ a1 j ≠ 0 ∧ 12 ≤ p j)) cap → wX_fillFromBest_6 post f 0 (sm_v bd) (nI k) (nI cap) le fs ff tk a1 a2 a3 a4 a5 a6 a7 a8 a9 a10 a11 a12 a13 a14 a15 := by
  have hc := hE.1
  intro f
  induction f with
  | zero => intro k bd le fs ff a8 a9 a10 h1 h2; omega
  | succ f ih =>
    intro k bd le fs ff a8 a9 a10 h1 h2 hbd ht hn
    cases f with
    | zero => omega
    | succ f =>
    refine pk_le cap k (fun z => H _ _ _ p a6 a7 a8 a9 a10 hS (Or.inl ⟨rfl, fun j hj hA hp => ?_⟩)) (fun z => br_t rfl (sm_bestW hE hS (fun q => by have := hbd q; omega) (fun b hL => sm_vge b (fun g => ?_) (fun g => nm_r (nI_1 k) (sm_fdone (H _ _ _ p a6 a7 a8 a9 a10 hS (Or.inl ⟨rfl, fun j hj hA hp => ?_⟩)))) rfl)))
    · have e := sm_se (f := fun j => sm_i (bd < 12 ∧ sm_k w bd ≤ sm_k w j ∧ a1 j ≠ 0 ∧ 12 ≤ p j)) (g := fun _ => 1) cap (fun i _ => sm_ib _) (by rw [sm_sk]; omega) j hA.1
      obtain ⟨q1, q2, _⟩ := sm_iinv e
      exact ht j hA.1 hA.2 hp q1 q2
    · obtain ⟨l1, ⟨l2, l3, l4⟩, l5⟩ := sm_Llt hL g
      have better : ∀ j, j < cap → a1 j ≠ 0 → 12 ≤ p j → sm_k w b < sm_k w j → ∃ R, sm_F lo hi rm p j R := fun j hj ha hp hlt => by
        by_cases q : bd < 12 ∧ sm_k w bd ≤ sm_k w j
        · exact ht j hj ha hp q.1 q.2
        · have := l5 j hj ⟨ha, hp, fun x => by
            rcases Nat.lt_or_ge (sm_k w j) (sm_k w bd) with y | y
            · exact y
            · exact absurd ⟨x, y⟩ q⟩
          have this' : sm_k w j ≤ sm_k w b := this
          omega
      refine sm_place' (sm_v1 g) hE hS hM l1 l3 (fun le fs ff p' c6 c7 c8 c9 c10 s1 s2 s3 => nm_r (nI_1 k) (sm_fdone (H _ _ _ p' c6 c7 c8 c9 c10 s1 (Or.inr ⟨b, by omega, ⟨l1, l2⟩, l3, s3, s2, fun j hj hA hp hlt => better j hA.1 hA.2 hp hlt⟩)))) (fun le fs ff c8 c9 c10 R hF hr => nm_r (nI_1 k) (ih (k + 1) b le fs ff c8 c9 c10 (by omega) (by omega) (fun _ => l1) (fun j hj ha hp _ hle => ?_) ?_))
      · by_cases e : j = b
        · subst e; exact ⟨R, hF⟩
        · refine better j hj ha hp ?_
          rcases Nat.lt_or_ge (sm_k w b) (sm_k w j) with y | y
          · exact y
          · exact absurd (sm_kinj w j b (by omega) (by omega) (by omega)) e
      · refine Nat.le_trans (Nat.succ_le_succ hn) (sm_sinc (k := b) cap (fun i hi => sm_ile (fun z => ⟨g, by have := l4 z.1; omega, z.2.2⟩)) l1 ?_)
        show sm_i (bd < 12 ∧ sm_k w bd ≤ sm_k w b ∧ a1 b ≠ 0 ∧ 12 ≤ p b) + 1 ≤ sm_i (b < 12 ∧ sm_k w b ≤ sm_k w b ∧ a1 b ≠ 0 ∧ 12 ≤ p b)
        rw [sm_i0 (P := bd < 12 ∧ sm_k w bd ≤ sm_k w b ∧ a1 b ≠ 0 ∧ 12 ≤ p b) (fun z => by have := l4 z.1; omega), sm_i1 (P := b < 12 ∧ sm_k w b ≤ sm_k w b ∧ a1 b ≠ 0 ∧ 12 ≤ p b) ⟨g, Nat.le_refl _, l2, l3⟩]
        exact Nat.le_refl _
    · by_cases q : bd < 12 ∧ sm_k w bd ≤ sm_k w j
      · exact ht j hA.1 hA.2 hp q.1 q.2
      · exact absurd ⟨hA.2, hp, fun x => by
          rcases Nat.lt_or_ge (sm_k w j) (sm_k w bd) with y | y
          · exact y
          · exact absurd ⟨x, y⟩ q⟩ (sm_Lge hL (by omega) g j hA.1)
theorem sm_fill {post : St1 → Prop} (hE : sm_E cap lo hi w rm a2 a3 a4 a5) (hS : sm_S cap p a6 a7) (hM : sm_M lo hi rm p)
    (H : ∀ le fs ff p' a6 a7 a8 a9 a10, sm_S cap p' a6 a7 → sm_N lo hi rm p (sm_k w) (fun j => j < cap ∧ a1 j ≠ 0) p' → post (nI cap, le, fs, ff, tk, a1, a2, a3, a4, a5, a6, a7, a8, a9, a10, a11, a12, a13, a14, a15)) : wpX_fillFromBest post (nI cap, le, fs, ff, tk, a1, a2, a3, a4, a5, a6, a7, a8, a9, a10, a11, a12, a13, a14, a15) :=
  ⟨cap + 2, sm_filll hE hS hM H (cap + 2) 0 12 le fs ff a8 a9 a10 (Nat.zero_le _) (by omega) (fun q => by omega) (fun j _ _ _ q => by omega) (Nat.zero_le _)⟩
theorem sm_contest {post : St1 → Prop} {d : Nat} (hE : sm_E cap lo hi w rm a2 a3 a4 a5) (hS : sm_S cap p a6 a7) (hM : sm_M lo hi rm p) (hd : d < cap) (hpd : 12 ≤ p d)
    (H : ∀ le fs ff p' a6 a7 a8 a9 a10, sm_S cap p' a6 a7 → sm_X lo hi rm p (sm_k w) d p' → post (nI cap, le, fs, ff, tk, a1, a2, a3, a4, a5, a6, a7, a8, a9, a10, a11, a12, a13, a14, a15)) : wpX_contest post (nI cap, le, fs, ff, tk, a1, a2, a3, a4, a5, a6, a7, a8, a9, a10, a11, a12, a13, a14, a15) (nI d) := by
  have hc := hE.1
  refine sm_place hE hS hM hd hpd (fun le fs ff p' c6 c7 c8 c9 c10 s1 s2 s3 => br_f (by decide) (H _ _ _ p' c6 c7 c8 c9 c10 s1 (Or.inl ⟨s3, s2⟩))) (fun le fs ff c8 c9 c10 R hF hr => br_t rfl (sm_leastR hE (fun b hL => ?_)))
  have hb : b < 12 := by
    rcases Nat.lt_or_ge b 12 with q | q
    · exact q
    · exact absurd ((hr d (by omega)).mpr (Or.inl rfl)) (sm_Lge hL (by omega) q d hd)
  obtain ⟨l1, l2, l3⟩ := sm_Llt hL hb
  have hmin : ∀ i, i < 8 → p i < 12 → R (p i) → sm_k w b ≤ sm_k w i := fun i hi hp hR => l3 i ((hS.1 i hi).2 hp) ((hr i hi).mpr (Or.inr ⟨hp, hR⟩))
  rw [sm_v1 hb]
  refine pk_eq b d (fun e => H _ _ _ p a6 a7 c8 c9 c10 hS (Or.inr (Or.inl ⟨rfl, R, hF, fun i hi hp hR => ?_⟩))) (fun ne => ?_)
  · subst e
    have h1 := hmin i hi hp hR
    rcases Nat.lt_or_ge (sm_k w b) (sm_k w i) with y | y
    · exact y
    · have := sm_kinj w i b hi (by omega) (by omega)
      rw [this] at hp; omega
  · obtain ⟨hpb, hRb⟩ := ((hr b (by omega)).mp l2).elim (fun z => absurd z ne) id
    have g1 : ∀ i, i < 8 → i ≠ b → sm_u p b 12 i = p i := fun i _ h => sm_un h
    have g2 : 12 ≤ sm_u p b 12 b := by rw [sm_us]; exact Nat.le_refl _
    have hM1 : sm_M lo hi rm (sm_u p b 12) := sm_VM (show b < 8 by omega) hM.1 g1 g2 (fun s hs => Nat.le_trans (hM.2 s hs) (Nat.le_add_right _ _))
    have hkd : sm_k w b < sm_k w d := by
      have h1 := l3 d hd ((hr d (by omega)).mpr (Or.inl rfl))
      have h1' : sm_k w b ≤ sm_k w d := h1
      rcases Nat.lt_or_ge (sm_k w b) (sm_k w d) with y | y
      · exact y
      · exact absurd (sm_kinj w b d (by omega) (by omega) (by omega)) ne
    refine sm_vacate (show b < 8 by omega) hS (fun e6 e7 hS1 => sm_place hE hS1 hM1 hd (by rw [sm_un (fun z => ne z.symm)]; exact hpd) (fun le fs ff p' f6 f7 f8 f9 f10 s1 s2 s3 => H _ _ _ p' f6 f7 f8 f9 f10 s1 (Or.inr (Or.inr ⟨R, b, hF, by omega, hpb, hRb, hkd, hmin, s2, fun i hi => ?_⟩))) (fun le fs ff f8 f9 f10 R1 hF1 hr1 => absurd hF1 (sm_Snd hM (by omega) hF hpb hRb g1 g2)))
    rw [s3 i hi]
    by_cases e : i = b
    · subst e
      rw [sm_us]
      exact ⟨fun z => z.elim (fun z => by omega) Or.inr, fun z => z.elim (fun z => absurd rfl z.2) Or.inr⟩
    · rw [g1 i hi e]
      exact ⟨fun z => z.elim (fun z => Or.inl ⟨z, e⟩) Or.inr, fun z => z.elim (fun z => Or.inl z.1) Or.inr⟩
theorem sm_save {post : St1 → Prop} (hS : sm_S cap p a6 a7) (H : ∀ a11 a12, sm_Sv p a11 a12 → post (nI cap, le, fs, ff, tk, a1, a2, a3, a4, a5, a6, a7, a8, a9, a10, a11, a12, a13, a14, a15)) : wpX_save post (nI cap, le, fs, ff, tk, a1, a2, a3, a4, a5, a6, a7, a8, a9, a10, a11, a12, a13, a14, a15) := by
  refine pk_loop (fun n i b11 => wX_save_2 post (nI cap) le fs ff tk n (nI i) a1 a2 a3 a4 a5 a6 a7 a8 a9 a10 b11 a12 a13 a14 a15) (fun i b11 => ∀ j, j < i → b11 j = sm_v (p j)) 8 0 a11 (by omega) (fun j hj => absurd hj (by omega)) ?_ ?_
  · intro n b11 h11
    refine pk_le 8 8 (fun _ => ?_) (fun z => absurd z (by omega))
    refine pk_loop (fun n i b12 => wX_save_28 post (nI cap) le fs ff tk n (nI i) a1 a2 a3 a4 a5 a6 a7 a8 a9 a10 b11 b12 a13 a14 a15) (fun i b12 => ∀ j, j < i → b12 j = nI (sm_ld p j)) 12 0 a12 (by omega) (fun j hj => absurd hj (by omega)) ?_ ?_
    · intro n b12 h12
      exact pk_le 12 12 (fun _ => H b11 b12 ⟨h11, h12⟩) (fun z => absurd z (by omega))
    · intro n i b12 hi h12 hw
      have hb := sm_ldb (p := p) (s := i)
      refine pk_le 12 i (fun z => absurd z (by omega)) (fun _ => ⟨pk_in i 12 hi, pk_in i 12 hi, nm_r (by rw [nI_clamp (by omega), hS.2 i hi, vp_nar_byte, sm_b8 _ (by omega)]) (nm_r (nI_1 i) (hw (upd b12 i (nI (sm_ld p i))) (lt_s (fun j hj => ?_) pk_us)))⟩)
      rw [pk_un (by omega)]; exact h12 j hj
  · intro n i b11 hi h11 hw
    refine pk_le 8 i (fun z => absurd z (by omega)) (fun _ => ⟨pk_in i 8 hi, pk_in i 8 hi, nm_r (by rw [nI_clamp (by omega), (hS.1 i hi).1, vp_nar_byte, sm_vb]) (nm_r (nI_1 i) (hw (upd b11 i (sm_v (p i))) (lt_s (fun j hj => ?_) pk_us)))⟩)
    rw [pk_un (by omega)]; exact h11 j hj
theorem sm_restore {post : St1 → Prop} (hV : sm_Sv p a11 a12) (hq : ∀ i, i < 8 → p i < 12 → i < cap) (H : ∀ a6 a7, sm_S cap p a6 a7 → post (nI cap, le, fs, ff, tk, a1, a2, a3, a4, a5, a6, a7, a8, a9, a10, a11, a12, a13, a14, a15)) : wpX_restore post (nI cap, le, fs, ff, tk, a1, a2, a3, a4, a5, a6, a7, a8, a9, a10, a11, a12, a13, a14, a15) := by
  refine pk_loop (fun n i b6 => wX_restore_2 post (nI cap) le fs ff tk n (nI i) a1 a2 a3 a4 a5 b6 a7 a8 a9 a10 a11 a12 a13 a14 a15) (fun i b6 => ∀ j, j < i → b6 j = sm_v (p j)) 8 0 a6 (by omega) (fun j hj => absurd hj (by omega)) ?_ ?_
  · intro n b6 h6
    refine pk_le 8 8 (fun _ => ?_) (fun z => absurd z (by omega))
    refine pk_loop (fun n i b7 => wX_restore_28 post (nI cap) le fs ff tk n (nI i) a1 a2 a3 a4 a5 b6 b7 a8 a9 a10 a11 a12 a13 a14 a15) (fun i b7 => ∀ j, j < i → b7 j = nI (sm_ld p j)) 12 0 a7 (by omega) (fun j hj => absurd hj (by omega)) ?_ ?_
    · intro n b7 h7
      exact pk_le 12 12 (fun _ => H b6 b7 ⟨fun i hi => ⟨h6 i hi, hq i hi⟩, h7⟩) (fun z => absurd z (by omega))
    · intro n i b7 hi h7 hw
      have hb := sm_ldb (p := p) (s := i)
      refine pk_le 12 i (fun z => absurd z (by omega)) (fun _ => ⟨pk_in i 12 hi, pk_in i 12 hi, nm_r (by rw [nI_clamp (by omega), hV.2 i hi, vp_nar_byte, sm_b8 _ (by omega)]) (nm_r (nI_1 i) (hw (upd b7 i (nI (sm_ld p i))) (lt_s (fun j hj => ?_) pk_us)))⟩)
      rw [pk_un (by omega)]; exact h7 j hj
  · intro n i b6 hi h6 hw
    refine pk_le 8 i (fun z => absurd z (by omega)) (fun _ => ⟨pk_in i 8 hi, pk_in i 8 hi, nm_r (by rw [nI_clamp (by omega), hV.1 i hi, vp_nar_byte, sm_vb]) (nm_r (nI_1 i) (hw (upd b6 i (sm_v (p i))) (lt_s (fun j hj => ?_) pk_us)))⟩)
    rw [pk_un (by omega)]; exact h6 j hj
theorem sm_ld12 {s : Nat} (hs : s < 12) : sm_ld (fun _ => 12) s = 0 := sm_s0 8 (fun i _ => sm_i0 (fun z : 12 = s => by omega))
theorem sm_empty {post : St1 → Prop} (H : ∀ a6 a7, sm_S cap (fun _ => 12) a6 a7 → post (nI cap, le, fs, ff, tk, a1, a2, a3, a4, a5, a6, a7, a8, a9, a10, a11, a12, a13, a14, a15)) : wpX_empty post (nI cap, le, fs, ff, tk, a1, a2, a3, a4, a5, a6, a7, a8, a9, a10, a11, a12, a13, a14, a15) := by
  refine pk_loop (fun n i b6 => wX_empty_2 post (nI cap) le fs ff tk n (nI i) a1 a2 a3 a4 a5 b6 a7 a8 a9 a10 a11 a12 a13 a14 a15) (fun i b6 => ∀ j, j < i → b6 j = -1) 8 0 a6 (by omega) (fun j hj => absurd hj (by omega)) ?_ ?_
  · intro n b6 h6
    refine pk_le 8 8 (fun _ => ?_) (fun z => absurd z (by omega))
    refine pk_loop (fun n i b7 => wX_empty_23 post (nI cap) le fs ff tk n (nI i) a1 a2 a3 a4 a5 b6 b7 a8 a9 a10 a11 a12 a13 a14 a15) (fun i b7 => ∀ j, j < i → b7 j = 0) 12 0 a7 (by omega) (fun j hj => absurd hj (by omega)) ?_ ?_
    · intro n b7 h7
      exact pk_le 12 12 (fun _ => H b6 b7 ⟨fun i hi => ⟨h6 i hi, fun z : 12 < 12 => absurd z (by omega)⟩, fun s hs => by rw [h7 s hs, sm_ld12 hs]; rfl⟩) (fun z => absurd z (by omega))
    · intro n i b7 hi h7 hw
      refine pk_le 12 i (fun z => absurd z (by omega)) (fun _ => ⟨pk_in i 12 hi, nm_r (by rw [nI_clamp (by omega)]) (nm_r (nI_1 i) (hw (upd b7 i 0) (lt_s (fun j hj => ?_) pk_us)))⟩)
      rw [pk_un (by omega)]; exact h7 j hj
  · intro n i b6 hi h6 hw
    refine pk_le 8 i (fun z => absurd z (by omega)) (fun _ => ⟨pk_in i 8 hi, nm_r (by rw [nI_clamp (by omega)]) (nm_r (nI_1 i) (hw (upd b6 i (-1)) (lt_s (fun j hj => ?_) pk_us)))⟩)
    rw [pk_un (by omega)]; exact h6 j hj
end
end
section
/-- the set of those below n for which D holds, as a mask -/
noncomputable def sm_mk (D : Nat → Prop) (n : Nat) : Nat := sm_s (fun i => sm_i (D i) * 2 ^ i) n
theorem sm_mk1 (D : Nat → Prop) (n : Nat) : sm_mk D (n + 1) = sm_mk D n + sm_i (D n) * 2 ^ n := rfl
theorem sm_mklt (D : Nat → Prop) : ∀ n, sm_mk D n < 2 ^ n := by
  intro n
  induction n with
  | zero => exact Nat.zero_lt_one
  | succ n ih =>
    rw [sm_mk1, Nat.pow_succ]
    by_cases h : D n
    · rw [sm_i1 h]; omega
    · rw [sm_i0 h]; omega
theorem sm_mkb (D : Nat → Prop) (i : Nat) : ∀ n, sm_mk D n / 2 ^ i % 2 = sm_i (i < n ∧ D i) := by
  intro n
  induction n with
  | zero =>
    rw [sm_i0 (P := i < 0 ∧ D i) (fun z => by omega)]
    show 0 / 2 ^ i % 2 = 0
    rw [Nat.zero_div]
  | succ n ih =>
    rcases Nat.lt_trichotomy i n with h | h | h
    · rw [sm_mk1, sm_icg (show (i < n + 1 ∧ D i) ↔ (i < n ∧ D i) from ⟨fun z => ⟨h, z.2⟩, fun z => ⟨by omega, z.2⟩⟩), ← ih]
      have e : sm_i (D n) * 2 ^ n = 2 ^ i * (2 * (sm_i (D n) * 2 ^ (n - i - 1))) := by
        rw [show 2 ^ n = 2 ^ i * (2 * 2 ^ (n - i - 1)) by rw [← Nat.pow_succ', ← Nat.pow_add, show i + (n - i - 1).succ = n by omega]]
        simp only [Nat.mul_comm, Nat.mul_left_comm, Nat.mul_assoc]
      rw [e, Nat.add_mul_div_left _ _ (Nat.two_pow_pos i)]
      omega
    · subst h
      rw [sm_mk1, sm_icg (show (i < i + 1 ∧ D i) ↔ D i from ⟨fun z => z.2, fun z => ⟨by omega, z⟩⟩), Nat.mul_comm, Nat.add_mul_div_left _ _ (Nat.two_pow_pos i), Nat.div_eq_of_lt (sm_mklt D i)]
      have := sm_ib (D i)
      omega
    · rw [sm_i0 (P := i < n + 1 ∧ D i) (fun z => by omega), Nat.div_eq_of_lt (Nat.lt_of_lt_of_le (sm_mklt D (n + 1)) (Nat.pow_le_pow_right (by omega) h))]
theorem sm_mk7 (D : Nat → Prop) {n : Nat} (h : n ≤ 7) : sm_mk D n < 128 := Nat.lt_of_lt_of_le (sm_mklt D n) (Nat.pow_le_pow_right (n := 2) (by omega) h)
theorem sm_mor : ∀ i, i < 7 → ∀ m, m < 128 → m < 2 ^ i → nI m ||| ((1 : Int32) <<< (nI i &&& 31)) = nI (m + 2 ^ i) := by decide +kernel
theorem sm_mbit : ∀ i, i < 7 → ∀ m, m < 128 → ((nI m) >>> (nI i &&& 31)) &&& 1 = nI (m / 2 ^ i % 2) := by decide +kernel
theorem sm_mand : ∀ c, c < 128 → ∀ a, a < 128 → c &&& a = c → nI c &&& (nI a ^^^ (-1)) = 0 := by decide +kernel
theorem sm_sub {D D' : Nat → Prop} {n : Nat} (hn : n ≤ 7) (h : ∀ i, i < n → D i → D' i) : nI (sm_mk D n) &&& (nI (sm_mk D' n) ^^^ (-1)) = 0 := by
  refine sm_mand _ (sm_mk7 D hn) _ (sm_mk7 D' hn) (Nat.eq_of_testBit_eq (fun i => ?_))
  rw [Nat.testBit_and, Nat.testBit_eq_decide_div_mod_eq, Nat.testBit_eq_decide_div_mod_eq, sm_mkb, sm_mkb]
  by_cases q : i < n ∧ D i
  · rw [sm_i1 q, sm_i1 (P := i < n ∧ D' i) ⟨q.1, h i q.1 q.2⟩]; rfl
  · rw [sm_i0 q]; rfl
theorem sm_bit1 {D : Nat → Prop} {n i : Nat} {A B : Prop} (hn : n ≤ 7) (hi : i < 7) (f : i < n ∧ D i → A) (g : ¬ (i < n ∧ D i) → B) : (((nI (sm_mk D n)) >>> (nI i &&& 31)) &&& 1 = 1 → A) ∧ (¬ ((nI (sm_mk D n)) >>> (nI i &&& 31)) &&& 1 = 1 → B) := by
  rw [sm_mbit i hi _ (sm_mk7 D hn), sm_mkb]
  by_cases q : i < n ∧ D i
  · rw [sm_i1 q]; exact br_t rfl (f q)
  · rw [sm_i0 q]; exact br_f (by decide) (g q)
theorem sm_bit0 {D : Nat → Prop} {n i : Nat} {A B : Prop} (hn : n ≤ 7) (hi : i < 7) (f : ¬ (i < n ∧ D i) → A) (g : i < n ∧ D i → B) : (((nI (sm_mk D n)) >>> (nI i &&& 31)) &&& 1 = 0 → A) ∧ (¬ ((nI (sm_mk D n)) >>> (nI i &&& 31)) &&& 1 = 0 → B) := by
  rw [sm_mbit i hi _ (sm_mk7 D hn), sm_mkb]
  by_cases q : i < n ∧ D i
  · rw [sm_i1 q]; exact br_f (by decide) (g q)
  · rw [sm_i0 q]; exact br_t rfl (f q)
/-- the worth of all that is placed -/
noncomputable def sm_tot (w p : Nat → Nat) (n : Nat) : Nat := sm_s (fun i => sm_i (p i < 12) * w i) n
theorem sm_tot1 (w p : Nat → Nat) (n : Nat) : sm_tot w p (n + 1) = sm_tot w p n + sm_i (p n < 12) * w n := rfl
theorem sm_totb {w p : Nat → Nat} (h : ∀ i, i < 8 → w i ≤ 20) : ∀ n, n ≤ 8 → sm_tot w p n ≤ 20 * n := by
  intro n
  induction n with
  | zero => intro _; exact Nat.le_refl _
  | succ n ih =>
    intro hn
    have h1 := ih (by omega)
    have h2 := h n (by omega)
    rw [sm_tot1]
    by_cases q : p n < 12
    · rw [sm_i1 q]; omega
    · rw [sm_i0 q]; omega
theorem sm_totl {w p p' : Nat → Nat} (n : Nat) (h : ∀ i, i < n → p i < 12 → p' i < 12) : sm_tot w p n ≤ sm_tot w p' n := sm_sl n (fun i hi => Nat.mul_le_mul_right _ (sm_ile (h i hi)))
section
variable {cap : Nat} {lo hi w rm p : Nat → Nat} {le fs ff tk : Int32} {a1 a2 a3 a4 a5 a6 a7 a8 a9 a10 a11 a12 a13 a14 a15 : Nat → Int32}
theorem sm_chosen {post : Int32 → Prop} (hc : cap ≤ 7) (hS : sm_S cap p a6 a7) (H : post (nI (sm_mk (fun i => p i < 12) cap))) : wpX_chosen post (nI cap, le, fs, ff, tk, a1, a2, a3, a4, a5, a6, a7, a8, a9, a10, a11, a12, a13, a14, a15) := by
  refine pk_loop (σ := Unit) (fun n i _ => wX_chosen_4 post (nI cap) le fs ff tk a1 a2 a3 a4 a5 a6 a7 a8 a9 a10 a11 a12 a13 a14 a15 n (nI (sm_mk (fun i => p i < 12) i)) (nI i)) (fun _ _ => True) cap 0 () (Nat.zero_le _) trivial (fun n _ _ => pk_le cap cap (fun _ => H) (fun z => absurd z (by omega))) ?_
  intro n i _ hi _ hw
  have hw' : wX_chosen_4 post (nI cap) le fs ff tk a1 a2 a3 a4 a5 a6 a7 a8 a9 a10 a11 a12 a13 a14 a15 n (nI (sm_mk (fun i => p i < 12) (i + 1))) (nI (i + 1)) := hw () trivial
  refine pk_le cap i (fun z => absurd z (by omega)) (fun _ => ⟨pk_in i 8 (by omega), sm_vlt (p i) (fun g => nm_r (nI_1 i) ?_) (fun g => nm_r (sm_mor i (by omega) _ (sm_mk7 _ (by omega)) (sm_mklt _ i)) (nm_r (nI_1 i) ?_)) (sm_at (hS.1 i (by omega)).1)⟩)
  · rw [sm_mk1, sm_i0 (P := p i < 12) (by omega), Nat.zero_mul] at hw'
    exact hw'
  · rw [sm_mk1, sm_i1 g, Nat.one_mul] at hw'
    exact hw'
theorem sm_jobs {post : Int32 → Prop} (hc : cap ≤ 7) (H : post (nI (sm_mk (fun i => a1 i ≠ 0) cap))) : wpX_jobs post (nI cap, le, fs, ff, tk, a1, a2, a3, a4, a5, a6, a7, a8, a9, a10, a11, a12, a13, a14, a15) := by
  refine pk_loop (σ := Unit) (fun n i _ => wX_jobs_4 post (nI cap) le fs ff tk a1 a2 a3 a4 a5 a6 a7 a8 a9 a10 a11 a12 a13 a14 a15 n (nI (sm_mk (fun i => a1 i ≠ 0) i)) (nI i)) (fun _ _ => True) cap 0 () (Nat.zero_le _) trivial (fun n _ _ => pk_le cap cap (fun _ => H) (fun z => absurd z (by omega))) ?_
  intro n i _ hi _ hw
  have hw' : wX_jobs_4 post (nI cap) le fs ff tk a1 a2 a3 a4 a5 a6 a7 a8 a9 a10 a11 a12 a13 a14 a15 n (nI (sm_mk (fun i => a1 i ≠ 0) (i + 1))) (nI (i + 1)) := hw () trivial
  refine pk_le cap i (fun z => absurd z (by omega)) (fun _ => ⟨pk_in i 8 (by omega), br_c (fun g => nm_r (nI_1 i) ?_) (fun g => nm_r (sm_mor i (by omega) _ (sm_mk7 _ (by omega)) (sm_mklt _ i)) (nm_r (nI_1 i) ?_))⟩)
  · rw [sm_mk1, sm_i0 (P := a1 i ≠ 0) (fun q => q ((sm_at rfl).symm.trans g)), Nat.zero_mul] at hw'
    exact hw'
  · rw [sm_mk1, sm_i1 (P := a1 i ≠ 0) (fun q => g (sm_at q)), Nat.one_mul] at hw'
    exact hw'
theorem sm_total {post : Int32 → Prop} (hE : sm_E cap lo hi w rm a2 a3 a4 a5) (hS : sm_S cap p a6 a7) (H : post (nI (sm_tot w p cap))) : wpX_total post (nI cap, le, fs, ff, tk, a1, a2, a3, a4, a5, a6, a7, a8, a9, a10, a11, a12, a13, a14, a15) := by
  have hc := hE.1
  refine pk_loop (σ := Unit) (fun n i _ => wX_total_4 post (nI cap) le fs ff tk a1 a2 a3 a4 a5 a6 a7 a8 a9 a10 a11 a12 a13 a14 a15 n (nI (sm_tot w p i)) (nI i)) (fun _ _ => True) cap 0 () (Nat.zero_le _) trivial (fun n _ _ => pk_le cap cap (fun _ => H) (fun z => absurd z (by omega))) ?_
  intro n i _ hi _ hw
  have hw' : wX_total_4 post (nI cap) le fs ff tk a1 a2 a3 a4 a5 a6 a7 a8 a9 a10 a11 a12 a13 a14 a15 n (nI (sm_tot w p (i + 1))) (nI (i + 1)) := hw () trivial
  have h4 := hE.2.2.1 i (by omega)
  refine pk_le cap i (fun z => absurd z (by omega)) (fun _ => ⟨pk_in i 8 (by omega), sm_vlt (p i) (fun g => nm_r (nI_1 i) ?_) (fun g => ⟨pk_in i 8 (by omega), nm_r (by rw [sm_at h4.2, nI_add]) (nm_r (nI_1 i) ?_)⟩) (sm_at (hS.1 i (by omega)).1)⟩)
  · rw [sm_tot1, sm_i0 (P := p i < 12) (by omega), Nat.zero_mul] at hw'
    exact hw'
  · rw [sm_tot1, sm_i1 g, Nat.one_mul] at hw'
    exact hw'
theorem sm_holds {post : Int32 → Prop} {i : Nat} (hi : i < 8) (hc : cap ≤ 7) (H1 : i < cap → a1 i ≠ 0 → post 1) (H0 : ¬ (i < cap ∧ a1 i ≠ 0) → post 0) : wpX_holds post (nI cap, le, fs, ff, tk, a1, a2, a3, a4, a5, a6, a7, a8, a9, a10, a11, a12, a13, a14, a15) (nI i) :=
  br_f (nI_pos (by omega)) (pk_le cap i (fun z => H0 (fun q => by omega)) (fun z => ⟨pk_in i 8 hi, br_c (fun g => H0 (fun q => q.2 ((sm_at rfl).symm.trans g))) (fun g => H1 z (fun q => g (sm_at q)))⟩))
theorem sm_Erm {s x : Nat} (hE : sm_E cap lo hi w rm a2 a3 a4 a5) (hx : x ≤ 4) : sm_E cap lo hi w (sm_u rm s x) a2 a3 a4 (upd a5 s (nI x)) := by
  obtain ⟨h1, h2, h3, h5⟩ := hE
  refine ⟨h1, h2, h3, fun t ht => ?_⟩
  by_cases e : t = s
  · subst e
    rw [sm_us, pk_us]
    exact ⟨hx, rfl⟩
  · rw [sm_un e, pk_un e]
    exact h5 t ht
theorem sm_Eback {s x : Nat} {b5 : Nat → Int32} (hs : s < 12) (hE : sm_E cap lo hi w rm a2 a3 a4 a5) (hE' : sm_E cap lo hi w (sm_u rm s x) a2 a3 a4 b5) : sm_E cap lo hi w rm a2 a3 a4 (upd b5 s (nI (rm s))) := by
  obtain ⟨h1, h2, h3, h5⟩ := hE
  obtain ⟨_, _, _, h5'⟩ := hE'
  refine ⟨h1, h2, h3, fun t ht => ?_⟩
  by_cases e : t = s
  · subst e
    rw [pk_us]
    exact ⟨(h5 t ht).1, rfl⟩
  · rw [pk_un e]
    have := h5' t ht
    rw [sm_un e] at this
    exact this
theorem sm_widen {post : St1 → Prop} {s : Nat} (hs : s < 12) (hE : sm_E cap lo hi w rm a2 a3 a4 a5) (h3 : rm s ≤ 3) (hS : sm_S cap p a6 a7) (hM : sm_M lo hi rm p)
    (H : ∀ le fs ff p' a5 a6 a7 a8 a9 a10, sm_E cap lo hi w (sm_u rm s (rm s + 1)) a2 a3 a4 a5 → sm_S cap p' a6 a7 → sm_N lo hi (sm_u rm s (rm s + 1)) p (sm_k w) (fun j => j < cap ∧ a1 j ≠ 0) p' → post (nI cap, le, fs, ff, tk, a1, a2, a3, a4, a5, a6, a7, a8, a9, a10, a11, a12, a13, a14, a15)) : wpX_widen post (nI cap, le, fs, ff, tk, a1, a2, a3, a4, a5, a6, a7, a8, a9, a10, a11, a12, a13, a14, a15) (nI s) := by
  have h5 := hE.2.2.2 s hs
  have hE' := sm_Erm (s := s) (x := rm s + 1) hE (by omega)
  refine ⟨pk_in s 12 hs, pk_in s 12 hs, nm_r (sm_inc h5.2 hs (by omega)) (sm_fill hE' hS (sm_MF hM (fun t ht => ?_)) (fun le fs ff p' c6 c7 c8 c9 c10 s1 s2 => H le fs ff p' _ c6 c7 c8 c9 c10 hE' s1 s2))⟩
  by_cases e : t = s
  · subst e; rw [sm_us]; omega
  · rw [sm_un e]; exact Nat.le_refl _
/-- what narrow leaves -/
def sm_Y (cap : Nat) (lo hi rm p k : Nat → Nat) (s : Nat) (p' : Nat → Nat) : Prop :=
  (p' = p ∧ sm_ld p s ≤ rm s) ∨ (∃ i, i < cap ∧ p i = s ∧ sm_M lo hi rm (sm_u p i 12) ∧ sm_X lo hi rm (sm_u p i 12) k i p')
theorem sm_narrow {post : St1 → Prop} {s : Nat} (hs : s < 12) (hE : sm_E cap lo hi w rm a2 a3 a4 a5) (h1 : 1 ≤ rm s) (hS : sm_S cap p a6 a7) (hM : sm_M lo hi rm p)
    (H : ∀ le fs ff p' a5 a6 a7 a8 a9 a10, sm_E cap lo hi w (sm_u rm s (rm s - 1)) a2 a3 a4 a5 → sm_S cap p' a6 a7 → sm_Y cap lo hi (sm_u rm s (rm s - 1)) p (sm_k w) s p' → post (nI cap, le, fs, ff, tk, a1, a2, a3, a4, a5, a6, a7, a8, a9, a10, a11, a12, a13, a14, a15)) : wpX_narrow post (nI cap, le, fs, ff, tk, a1, a2, a3, a4, a5, a6, a7, a8, a9, a10, a11, a12, a13, a14, a15) (nI s) := by
  have hc := hE.1
  have h5 := hE.2.2.2 s hs
  have hl := hM.2 s hs
  have hE' := sm_Erm (s := s) (x := rm s - 1) hE (by omega)
  have e5 : a5 s = nI (rm s - 1 + 1) := by rw [h5.2, show rm s - 1 + 1 = rm s by omega]
  refine ⟨pk_in s 12 hs, pk_in s 12 hs, nm_r (sm_dec e5 hs (by omega)) ⟨pk_in s 12 hs, pk_in s 12 hs, pk_lt (rm s - 1) (sm_ld p s) (fun z => ?_) (fun z => H _ _ _ p _ a6 a7 a8 a9 a10 hE' hS (Or.inl ⟨rfl, by rw [sm_us]; omega⟩)) (sm_at pk_us) (sm_at (hS.2 s hs))⟩⟩
  refine sm_any hs hE' hS (by omega) (fun i hic e => sm_vacate (show i < 8 by omega) hS (fun e6 e7 hS1 => ?_))
  have g2 : 12 ≤ sm_u p i 12 i := by rw [sm_us]; exact Nat.le_refl _
  have hM1 : sm_M lo hi (sm_u rm s (rm s - 1)) (sm_u p i 12) := sm_VM (show i < 8 by omega) hM.1 (fun j _ h => sm_un h) g2 (fun t ht => by
    have := hM.2 t ht
    by_cases e' : t = s
    · subst e'; rw [sm_us, sm_i1 e]; omega
    · rw [sm_un e']; omega)
  exact sm_contest hE' hS1 hM1 hic g2 (fun le fs ff p' f6 f7 f8 f9 f10 s1 s2 => H le fs ff p' _ f6 f7 f8 f9 f10 hE' s1 (Or.inr ⟨i, hic, e, hM1, s2⟩))
end
end
section
section
variable {cap : Nat} {lo hi w rm p : Nat → Nat} {le fs ff tk : Int32} {a1 a2 a3 a4 a5 a6 a7 a8 a9 a10 a11 a12 a13 a14 a15 : Nat → Int32}
theorem sm_gain {post : Int32 → St1 → Prop} {s : Nat} (hs : s < 12) (hE : sm_E cap lo hi w rm a2 a3 a4 a5) (h3 : rm s ≤ 3) (hS : sm_S cap p a6 a7) (hM : sm_M lo hi rm p)
    (H : ∀ (x : Nat) le fs ff a5 a6 a7 a8 a9 a10 a11 a12, x < 1000 → sm_E cap lo hi w rm a2 a3 a4 a5 → sm_S cap p a6 a7 → post (nI x) (nI cap, le, fs, ff, tk, a1, a2, a3, a4, a5, a6, a7, a8, a9, a10, a11, a12, a13, a14, a15)) : wpX_gain post (nI cap, le, fs, ff, tk, a1, a2, a3, a4, a5, a6, a7, a8, a9, a10, a11, a12, a13, a14, a15) (nI s) := by
  have hc := hE.1
  refine br_f (nI_pos (by omega)) (pk_le s 11 (fun _ => sm_save hS (fun b11 b12 hV => sm_total hE hS (sm_widen hs hE h3 hS hM (fun le fs ff p' c5 c6 c7 c8 c9 c10 hE' hS' hN => sm_total hE' hS' ⟨pk_in s 12 hs, pk_in s 12 hs, nm_r (e' := upd c5 s (nI (rm s))) ?_ (sm_restore hV (fun i hi => (hS.1 i hi).2) (fun d6 d7 hS2 => ?_))⟩)))) (fun z => absurd z (by omega)))
  · have h := (hE'.2.2.2 s hs).2
    rw [sm_us] at h
    exact sm_dec h hs (by omega)
  · have hp : ∀ i, i < cap → p i < 12 → p' i < 12 := fun i hi h => by
      rcases hN with ⟨e, _⟩ | ⟨r, _, _, _, hA, _⟩
      · rw [e]; exact h
      · exact (hA i (by omega)).mpr (Or.inl h)
    have h1 := sm_totl (w := w) cap hp
    have h2 := sm_totb (p := p') (fun i hi => (hE.2.2.1 i hi).1) cap (by omega)
    rw [pk_sub h1]
    exact H _ _ _ _ _ d6 d7 c8 c9 c10 b11 b12 (by omega) (sm_Eback hs hE hE') hS2
theorem sm_loss {post : Int32 → St1 → Prop} {s : Nat} (hs : s < 12) (hE : sm_E cap lo hi w rm a2 a3 a4 a5) (h3 : 1 ≤ rm s) (hS : sm_S cap p a6 a7) (hM : sm_M lo hi rm p)
    (H : ∀ (x : Nat) le fs ff a5 a6 a7 a8 a9 a10 a11 a12, x < 1000 → sm_E cap lo hi w rm a2 a3 a4 a5 → sm_S cap p a6 a7 → post (nI x) (nI cap, le, fs, ff, tk, a1, a2, a3, a4, a5, a6, a7, a8, a9, a10, a11, a12, a13, a14, a15)) : wpX_loss post (nI cap, le, fs, ff, tk, a1, a2, a3, a4, a5, a6, a7, a8, a9, a10, a11, a12, a13, a14, a15) (nI s) := by
  have hc := hE.1
  have h5 := hE.2.2.2 s hs
  refine br_f (nI_pos (by omega)) (pk_lt 11 s (fun z => absurd z (by omega)) (fun _ => ⟨pk_in s 12 hs, br_f (fun z => nI_ne0 (n := rm s) (by omega) (by omega) ((sm_at h5.2).symm.trans z)) (sm_save hS (fun b11 b12 hV => sm_total hE hS (sm_narrow hs hE h3 hS hM (fun le fs ff p' c5 c6 c7 c8 c9 c10 hE' hS' hY => sm_total hE' hS' ⟨pk_in s 12 hs, pk_in s 12 hs, nm_r (e' := upd c5 s (nI (rm s))) ?_ (sm_restore hV (fun i hi => (hS.1 i hi).2) (fun d6 d7 hS2 => ?_))⟩))))⟩))
  · have h := (hE'.2.2.2 s hs).2
    rw [sm_us] at h
    have e := sm_inc h hs (by omega)
    rw [show rm s - 1 + 1 = rm s by omega] at e
    exact e
  · have hp : ∀ i, i < cap → p' i < 12 → p i < 12 := fun i hi h => by
      rcases hY with ⟨e, _⟩ | ⟨j, hj, e, _, hX⟩
      · rw [← e]; exact h
      · have low : ∀ k, sm_u p j 12 k < 12 → p k < 12 := fun k hk => by
          by_cases e2 : k = j
          · rw [e2, sm_us] at hk; omega
          · rw [sm_un e2] at hk; exact hk
        have hj12 : p j < 12 := by omega
        rcases hX with ⟨hA, _⟩ | ⟨e2, _⟩ | ⟨R, l, _, _, _, _, _, _, _, hP⟩
        · rcases (hA i (by omega)).mp h with q | q
          · exact low i q
          · rw [q]; exact hj12
        · rw [e2] at h; exact low i h
        · rcases (hP i (by omega)).mp h with q | q
          · exact low i q.1
          · rw [q]; exact hj12
    have h1 := sm_totl (w := w) cap hp
    have h2 := sm_totb (p := p) (fun i hi => (hE.2.2.1 i hi).1) cap (by omega)
    rw [pk_sub h1]
    exact H _ _ _ _ _ d6 d7 c8 c9 c10 b11 b12 (by omega) (sm_Eback hs hE hE') hS2
theorem sm_fitl {post : Int32 → St1 → Prop} (hE : sm_E cap lo hi w rm a2 a3 a4 a5) (hM : sm_M lo hi rm p) (hpc : ∀ i, i < 8 → p i < 12 → i < cap) (hV : sm_Sv p a11 a12)
    (H : ∀ le fs ff a6 a7 a8 a9 a10, sm_S cap p a6 a7 → post 1 (nI cap, le, fs, ff, tk, a1, a2, a3, a4, a5, a6, a7, a8, a9, a10, a11, a12, a13, a14, a15)) :
    ∀ (f i : Nat) (q : Nat → Nat) (le fs ff : Int32) (a6 a7 a8 a9 a10 : Nat → Int32), i ≤ cap → cap < f + i → sm_S cap q a6 a7 → sm_M lo hi rm q → (∀ j, j < 8 → (q j < 12 ↔ p j < 12 ∧ j < i)) →
      wX_fits_28 post (nI (sm_mk (fun i => p i < 12) cap)) f 1 (nI i) (nI cap) le fs ff tk a1 a2 a3 a4 a5 a6 a7 a8 a9 a10 a11 a12 a13 a14 a15 := by
  have hc := hE.1
  intro f
  induction f with
  | zero => intro i q le fs ff a6 a7 a8 a9 a10 h1 h2; omega
  | succ f ih =>
    intro i q le fs ff a6 a7 a8 a9 a10 h1 h2 hS hMq hq
    refine pk_le cap i (fun z => sm_restore hV hpc (fun d6 d7 hS2 => ⟨rfl, H _ _ _ d6 d7 _ _ _ hS2⟩)) (fun z => br_f (by decide) (sm_bit0 hc (by omega) (fun g => nm_r (nI_1 i) (ih (i + 1) q le fs ff a6 a7 a8 a9 a10 (by omega) (by omega) hS hMq (fun j hj => ?_))) (fun g => ?_)))
    · rw [hq j hj]
      refine ⟨fun x => ⟨x.1, by omega⟩, fun x => ⟨x.1, ?_⟩⟩
      by_cases e : j = i
      · subst e; exact absurd ⟨z, x.1⟩ g
      · have := x.2; omega
    · have hqi : 12 ≤ q i := by
        rcases Nat.lt_or_ge (q i) 12 with y | y
        · have := ((hq i (by omega)).mp y).2
          omega
        · exact y
      refine sm_place hE hS hMq z hqi (fun le fs ff q' c6 c7 c8 c9 c10 s1 s2 s3 => nm_r (nI_1 i) (ih (i + 1) q' le fs ff c6 c7 c8 c9 c10 (by omega) (by omega) s1 s2 (fun j hj => ?_))) (fun le fs ff c8 c9 c10 R hF hr => absurd hF (sm_Fit hM hMq (by omega) g.2 hqi (fun j hj h => ((hq j hj).mp h).1)))
      rw [s3 j hj, hq j hj]
      refine ⟨fun x => x.elim (fun x => ⟨x.1, by omega⟩) (fun x => ⟨by rw [x]; exact g.2, by omega⟩), fun x => ?_⟩
      by_cases e : j = i
      · exact Or.inr e
      · exact Or.inl ⟨x.1, by have := x.2; omega⟩
theorem sm_fits {post : Int32 → St1 → Prop} (hE : sm_E cap lo hi w rm a2 a3 a4 a5) (hS : sm_S cap p a6 a7) (hM : sm_M lo hi rm p) (hu : ∀ i, i < cap → p i < 12 → a1 i ≠ 0)
    (H : ∀ le fs ff a6 a7 a8 a9 a10 a11 a12, sm_S cap p a6 a7 → post 1 (nI cap, le, fs, ff, tk, a1, a2, a3, a4, a5, a6, a7, a8, a9, a10, a11, a12, a13, a14, a15)) : wpX_fits post (nI cap, le, fs, ff, tk, a1, a2, a3, a4, a5, a6, a7, a8, a9, a10, a11, a12, a13, a14, a15) (nI (sm_mk (fun i => p i < 12) cap)) := by
  have hc := hE.1
  refine sm_jobs hc (br_t (sm_sub hc hu) (sm_save hS (fun b11 b12 hV => sm_empty (fun c6 c7 hS0 => ⟨cap + 1, sm_fitl hE hM (fun i hi => (hS.1 i hi).2) hV (fun le fs ff d6 d7 d8 d9 d10 s => H le fs ff d6 d7 d8 d9 d10 b11 b12 s) (cap + 1) 0 (fun _ => 12) le fs ff c6 c7 a8 a9 a10 (Nat.zero_le _) (by omega) hS0 ⟨fun i _ h => absurd h (by show ¬ 12 < 12; omega), fun s hs => by rw [sm_ld12 hs]; exact Nat.zero_le _⟩ (fun j _ => ⟨fun z => absurd z (by show ¬ 12 < 12; omega), fun z => absurd z.2 (by omega)⟩)⟩))))
theorem sm_p46 {post : Int32 → St1 → Prop} {d : Nat} {q : Nat → Nat} (hd : d < cap) (hE : sm_E cap lo hi w rm a2 a3 a4 a5) (hS : sm_S cap q a6 a7) (hM : sm_M lo hi rm q) (hV : sm_Sv p a11 a12) (hpc : ∀ i, i < 8 → p i < 12 → i < cap) (hqd : 12 ≤ q d) (hw : 1 ≤ w d)
    (K1 : ∀ q', sm_M lo hi rm q' → sm_A q q' d → p d < 12)
    (K2 : p d < 12 → ∀ R, sm_F lo hi rm q d R → ∃ r, r < 8 ∧ q r < 12 ∧ R (q r) ∧ sm_k w r < sm_k w d)
    (K3 : 12 ≤ p d → ∀ R, sm_F lo hi rm q d R → ∀ i, i < 8 → q i < 12 → R (q i) → sm_k w d < sm_k w i)
    (H : ∀ x : Nat, x ≤ 21 → (x ≤ w d ↔ p d < 12) → ∀ le fs ff a6 a7 a8 a9 a10, sm_S cap p a6 a7 → post (nI x) (nI cap, le, fs, ff, tk, a1, a2, a3, a4, a5, a6, a7, a8, a9, a10, a11, a12, a13, a14, a15)) : wX_price_46 post (nI d) (nI cap) le fs ff tk a1 a2 a3 a4 a5 a6 a7 a8 a9 a10 a11 a12 a13 a14 a15 := by
  have hc := hE.1
  have hw20 := (hE.2.2.1 d (by omega)).1
  refine sm_place hE hS hM hd hqd (fun le fs ff p' c6 c7 c8 c9 c10 s1 s2 s3 => br_f (by decide) (sm_restore hV hpc (fun d6 d7 hS2 => H 1 (by omega) ⟨fun _ => K1 p' s2 s3, fun _ => hw⟩ _ _ _ d6 d7 _ _ _ hS2))) (fun le fs ff c8 c9 c10 R hF hr => br_t rfl (sm_against (show d < 8 by omega) hE (fun h0 => ?_) (fun b hb hbd hb8 hmin x hx hxk => ?_)))
  · refine sm_restore hV hpc (fun d6 d7 hS2 => H 21 (by omega) ⟨fun z => by omega, fun z => ?_⟩ _ _ _ d6 d7 _ _ _ hS2)
    obtain ⟨r, r1, r2, r3, r4⟩ := K2 z R hF
    have e := h0 r ((hS.1 r r1).2 r2) ((hr r r1).mpr (Or.inr ⟨r2, r3⟩))
    rw [e] at r4; omega
  · refine sm_restore hV hpc (fun d6 d7 hS2 => H x hx (hxk.trans ⟨fun z => ?_, fun z => ?_⟩) _ _ _ d6 d7 _ _ _ hS2)
    · rcases Nat.lt_or_ge (p d) 12 with y | y
      · exact y
      · obtain ⟨g1, g2⟩ := ((hr b (by omega)).mp hb8).elim (fun e => absurd e hbd) id
        have := K3 y R hF b (by omega) g1 g2
        omega
    · obtain ⟨r, r1, r2, r3, r4⟩ := K2 z R hF
      have := hmin r ((hS.1 r r1).2 r2) ((hr r r1).mpr (Or.inr ⟨r2, r3⟩)) (fun e => by rw [e] at r4; omega)
      omega
/-- price: it lies above the worth of just the jobs that stay out -/
theorem sm_price {post : Int32 → St1 → Prop} {d : Nat} (hd : d < cap) (hE : sm_E cap lo hi w rm a2 a3 a4 a5) (hS : sm_S cap p a6 a7) (hM : sm_M lo hi rm p) (hu : a1 d ≠ 0) (hw : 1 ≤ w d)
    (hO : ∀ j, j < 8 → (j < cap ∧ a1 j ≠ 0) → 12 ≤ p j → sm_C lo hi rm p (sm_k w) j)
    (H : ∀ x : Nat, x ≤ 21 → (x ≤ w d ↔ p d < 12) → ∀ le fs ff a1' a6 a7 a8 a9 a10 a11 a12, (∀ i, (a1' i ≠ 0 ↔ a1 i ≠ 0)) → sm_S cap p a6 a7 → post (nI x) (nI cap, le, fs, ff, tk, a1', a2, a3, a4, a5, a6, a7, a8, a9, a10, a11, a12, a13, a14, a15)) : wpX_price post (nI cap, le, fs, ff, tk, a1, a2, a3, a4, a5, a6, a7, a8, a9, a10, a11, a12, a13, a14, a15) (nI d) := by
  have hc := hE.1
  have hpc : ∀ i, i < 8 → p i < 12 → i < cap := fun i hi => (hS.1 i hi).2
  unfold wpX_price
  refine sm_holds (show d < 8 by omega) hc (fun _ _ => br_f (by decide) (sm_save hS (fun b11 b12 hV => ⟨pk_in d 8 (by omega), sm_vlt (p d) (fun g => ?_) (fun g => ?_) (sm_at (hS.1 d (by omega)).1)⟩))) (fun z => absurd ⟨hd, hu⟩ z)
  · have hC := hO d (by omega) ⟨hd, hu⟩ g
    refine sm_p46 hd hE hS hM hV hpc g hw (fun q' m1 m2 => ?_) (fun z => by omega) (fun _ R hF => sm_PrU hM hC hF) (fun x h1 h2 le fs ff d6 d7 d8 d9 d10 hS2 => H x h1 h2 le fs ff a1 d6 d7 d8 d9 d10 b11 b12 (fun _ => Iff.rfl) hS2)
    obtain ⟨Q, q1, q2, q3⟩ := hC
    exact absurd q1 (sm_G1 (show d < 8 by omega) g m2 m1 q2).2
  · have hd8 : d < 8 := by omega
    have hl := sm_ldp (p := p) hd8
    have hlr := hM.2 (p d) g
    have hwin := hM.1 d hd8 g
    have g2 : 12 ≤ sm_u p d 12 d := by rw [sm_us]; exact Nat.le_refl _
    have hrt : rm (p d) = sm_u rm (p d) (rm (p d) - 1) (p d) + 1 := by rw [sm_us]; omega
    have hrs : ∀ s, s < 12 → s ≠ p d → rm s = sm_u rm (p d) (rm (p d) - 1) s := fun s _ h => (sm_un h).symm
    have hM1 : sm_M lo hi (sm_u rm (p d) (rm (p d) - 1)) (sm_u p d 12) := sm_VM hd8 hM.1 (fun j _ h => sm_un h) g2 (fun t ht => by
      have := hM.2 t ht
      by_cases e' : t = p d
      · subst e'; rw [sm_us, sm_i1 rfl]; omega
      · rw [sm_un e']; omega)
    have hM0 : sm_M lo hi rm (sm_u p d 12) := sm_VM hd8 hM.1 (fun j _ h => sm_un h) g2 (fun t ht => Nat.le_trans (hM.2 t ht) (Nat.le_add_right _ _))
    refine sm_vacate hd8 hS (fun c6 c7 hS1 => ⟨pk_in d 8 hd8, nm_r (e' := upd a1 d 0) (by rw [nI_clamp (by omega)]) (sm_fill hE hS1 hM0 (fun le fs ff p' f6 f7 f8 f9 f10 hS2 hN => ⟨pk_in d 8 hd8, nm_r (e' := upd (upd a1 d 0) d 1) (by rw [nI_clamp (by omega)]) ?_⟩))⟩)
    have hA0 : ∀ j, j < cap ∧ upd a1 d 0 j ≠ 0 → j ≠ d ∧ a1 j ≠ 0 := fun j hj => by
      have hne : j ≠ d := fun e => by
        have := hj.2
        rw [e, pk_us] at this
        exact this rfl
      refine ⟨hne, ?_⟩
      have := hj.2
      rw [pk_un hne] at this
      exact this
    obtain ⟨m1, m2, m3⟩ := sm_Fill (d := d) (z := fun j => sm_k w j < sm_k w d) (fun i hi => (hE.2.1 i hi).1) hM1 g hrt hrs (sm_kinj w) hwin (fun j hj hA hp hne => sm_Vac hd8 hM rfl g hrt hrs (fun i _ h => sm_un h) g2 (fun i h => h) (hO j hj ⟨hA.1, (hA0 j hA).2⟩ (by rw [sm_un hne] at hp; exact hp))) (fun hA => absurd rfl (hA0 d hA).1) hN
    have hqd : 12 ≤ p' d := by
      rcases Nat.lt_or_ge (p' d) 12 with y | y
      · rcases m3 with e | ⟨r, _, hAr, _, hA, _⟩
        · rw [e] at y; omega
        · rcases (hA d hd8).mp y with e | e
          · omega
          · exact absurd e.symm (hA0 r hAr).1
      · exact y
    refine sm_p46 hd hE hS2 m1 hV hpc hqd hw (fun _ _ _ => g) (fun _ R hF => ?_) (fun z => by omega) (fun x h1 h2 le fs ff d6 d7 d8 d9 d10 hS3 => H x h1 h2 le fs ff (upd (upd a1 d 0) d 1) d6 d7 d8 d9 d10 b11 b12 (fun i => ?_) hS3)
    · rcases m3 with e | ⟨r, hr, hAr, hpr, hA, hz⟩
      · subst e
        have x1 := hF.2.1 (p d) g (hF.1 (p d) hwin.1 hwin.2)
        have x2 := hM1.2 (p d) g
        omega
      · exact ⟨r, hr, (hA r hr).mpr (Or.inr rfl), sm_PrC hM1 m1 hr hpr hA g hrt hrs hwin hF, hz (hA0 r hAr).1⟩
    · by_cases e : i = d
      · subst e
        rw [pk_us]
        exact ⟨fun _ => hu, fun _ => by decide⟩
      · rw [pk_un e, pk_un e]
end
end
section
theorem sm_uu (f : Nat → Int32) (k : Nat) (v x : Int32) : upd (upd f k v) k x = upd f k x := by
  funext j
  by_cases e : j = k
  · subst e; rw [pk_us, pk_us]
  · rw [pk_un e, pk_un e, pk_un e]
/-- the table: a placement of the same jobs -/
def sm_Tb (p rm q : Nat → Nat) (a15 : Nat → Int32) : Prop := (∀ i, i < 8 → (q i < 12 ↔ p i < 12)) ∧ (∀ i, i < 8 → p i < 12 → a15 i = nI (q i)) ∧ (∀ s, s < 12 → sm_ld q s ≤ rm s)
section
variable {cap : Nat} {lo hi w rm p : Nat → Nat} {le fs ff tk : Int32} {a1 a2 a3 a4 a5 a6 a7 a8 a9 a10 a11 a12 a13 a14 a15 : Nat → Int32}
theorem sm_fixl {post : St1 → Prop} {d h : Nat} (hc : cap ≤ 7) (hd : d < cap) (hh : h < 12) (hpd : 12 ≤ p d) (hfree : sm_ld p h < rm h) (hS : sm_S cap p a6 a7) (hM : ∀ x, sm_M (sm_u lo d x) (sm_u hi d x) rm p)
    (H : ∀ s le fs ff p' a2 a3 a6 a7 a8 a9 a10, s < 12 → sm_E cap (sm_u lo d s) (sm_u hi d s) w rm a2 a3 a4 a5 → sm_S cap p' a6 a7 → sm_M (sm_u lo d s) (sm_u hi d s) rm p' → sm_A p p' d → post (nI cap, le, fs, ff, tk, a1, a2, a3, a4, a5, a6, a7, a8, a9, a10, a11, a12, a13, a14, upd a15 d (nI s))) :
    ∀ (f s : Nat) (le fs ff : Int32) (a2 a3 a8 a9 a10 : Nat → Int32), s ≤ h → h + 2 < f + s → (∀ x, x < 12 → sm_E cap (sm_u lo d x) (sm_u hi d x) w rm (upd a2 d (nI x)) (upd a3 d (nI x)) a4 a5) → wX_fix_25 post (nI d) (nI h) f 0 (nI s) (nI cap) le fs ff tk a1 a2 a3 a4 a5 a6 a7 a8 a9 a10 a11 a12 a13 a14 a15 := by
  intro f
  induction f with
  | zero => intro s le fs ff a2 a3 a8 a9 a10 h1 h2; omega
  | succ f ih =>
    intro s le fs ff a2 a3 a8 a9 a10 h1 h2 hX
    have e8 : d < 8 := by omega
    refine pk_lt h s (fun z => absurd z (by omega)) (fun z => br_t rfl ⟨pk_in d 8 e8, nm_r (e' := upd a2 d (nI s)) (by rw [nI_clamp (by omega), sm_b8 s (by omega)]) ⟨pk_in d 8 e8, nm_r (e' := upd a3 d (nI s)) (by rw [nI_clamp (by omega), sm_b8 s (by omega)]) (sm_place (hX s (by omega)) hS (hM s) hd hpd (fun le fs ff p' c6 c7 c8 c9 c10 s1 s2 s3 => nm_r (nI_1 s) ?_) (fun le fs ff c8 c9 c10 R hF hr => nm_r (nI_1 s) (ih (s + 1) le fs ff _ _ c8 c9 c10 ?_ (by omega) (fun x hx => ?_))))⟩⟩)
    · have hp : p' d = s := by
        have := s2.1 d e8 ((s3 d e8).mpr (Or.inr rfl))
        rw [sm_us, sm_us] at this
        omega
      have fin : wX_fix_67 post (nI d) (nI cap) le fs ff tk a1 (upd a2 d (nI s)) (upd a3 d (nI s)) a4 a5 c6 c7 c8 c9 c10 a11 a12 a13 a14 a15 := ⟨pk_in d 8 e8, pk_in d 8 e8, nm_r (e' := upd a15 d (nI s)) (by rw [nI_clamp (by omega), (s1.1 d e8).1, hp, vp_nar_byte, sm_vb, sm_v1 (by omega)]) (H s le fs ff p' _ _ c6 c7 c8 c9 c10 (by omega) (hX s (by omega)) s1 s2 s3)⟩
      cases f with
      | zero => omega
      | succ f => exact br_c (fun _ => fin) (fun _ => br_f (by decide) fin)
    · rcases Nat.lt_or_ge s h with y | y
      · exact y
      · have e : s = h := by omega
        subst e
        have hR : R s := hF.1 s (by rw [sm_us]; exact Nat.le_refl _) (by rw [sm_us]; exact Nat.le_refl _)
        have := hF.2.1 s hh hR
        omega
    · rw [sm_uu, sm_uu]
      exact hX x hx
theorem sm_fix {post : St1 → Prop} {d : Nat} (hd : d < cap) (hE : sm_E cap lo hi w rm a2 a3 a4 a5) (hS : sm_S cap p a6 a7) (hM : sm_M lo hi rm p) (hp : p d < 12)
    (H : ∀ s le fs ff p' a2 a3 a6 a7 a8 a9 a10, s < 12 → sm_E cap (sm_u lo d s) (sm_u hi d s) w rm a2 a3 a4 a5 → sm_S cap p' a6 a7 → sm_M (sm_u lo d s) (sm_u hi d s) rm p' → (∀ i, i < 8 → (p' i < 12 ↔ p i < 12)) → post (nI cap, le, fs, ff, tk, a1, a2, a3, a4, a5, a6, a7, a8, a9, a10, a11, a12, a13, a14, upd a15 d (nI s))) : wpX_fix post (nI cap, le, fs, ff, tk, a1, a2, a3, a4, a5, a6, a7, a8, a9, a10, a11, a12, a13, a14, a15) (nI d) := by
  have hc := hE.1
  have e8 : d < 8 := by omega
  have h2 := hE.2.1 d e8
  have hw := hM.1 d e8 hp
  have g2 : 12 ≤ sm_u p d 12 d := by rw [sm_us]; exact Nat.le_refl _
  have hl := sm_ldc (p := p) (p' := sm_u p d 12) e8 (fun i _ h => sm_un h) (p d)
  rw [sm_us, sm_i1 (P := p d = p d) rfl, sm_i0 (P := 12 = p d) (by omega)] at hl
  have hr := hM.2 (p d) hp
  refine ⟨pk_in d 8 e8, nm_r (sm_at h2.2.2.1) ⟨pk_in d 8 e8, nm_r (sm_at (show a6 d = nI (p d) by rw [(hS.1 d e8).1, sm_v1 hp])) (sm_vacate e8 hS (fun c6 c7 hS1 => ⟨20, sm_fixl hc hd hp g2 (by omega) hS1 (fun x => ?_) (fun s le fs ff p' e2 e3 e6 e7 e8' e9 e10 hs s1 s2 s3 s4 => H s le fs ff p' e2 e3 e6 e7 e8' e9 e10 hs s1 s2 s3 (fun i hi => ?_)) 20 (lo d) le fs ff a2 a3 a8 a9 a10 hw.1 (by omega) (fun x hx => ?_)⟩))⟩⟩
  · have hM0 : sm_M lo hi rm (sm_u p d 12) := sm_VM e8 hM.1 (fun j _ h => sm_un h) g2 (fun t ht => Nat.le_trans (hM.2 t ht) (Nat.le_add_right _ _))
    refine ⟨fun i hi8 h => ?_, hM0.2⟩
    have hne : i ≠ d := fun e => by rw [e, sm_us] at h; omega
    rw [sm_un (f := lo) hne, sm_un (f := hi) hne]
    exact hM0.1 i hi8 h
  · rw [s4 i hi]
    by_cases e : i = d
    · subst e
      exact ⟨fun _ => hp, fun _ => Or.inr rfl⟩
    · rw [sm_un e]
      exact ⟨fun z => z.elim id (fun z => absurd z e), Or.inl⟩
  · obtain ⟨x1, x2, x3, x4⟩ := hE
    refine ⟨x1, fun i hi' => ?_, x3, x4⟩
    by_cases e : i = d
    · subst e
      rw [sm_us, sm_us, pk_us, pk_us]
      exact ⟨hx, hx, rfl, rfl⟩
    · rw [sm_un e, sm_un e, pk_un e, pk_un e]
      exact x2 i hi'
/-- saved windows -/
def sm_Sw (lo hi : Nat → Nat) (a13 a14 : Nat → Int32) : Prop := ∀ i, i < 8 → a13 i = nI (lo i) ∧ a14 i = nI (hi i)
theorem sm_mt79 {post : St1 → Prop} {l h : Nat → Nat} (hE : sm_E cap l h w rm a2 a3 a4 a5) (hV : sm_Sv p a11 a12) (hpc : ∀ i, i < 8 → p i < 12 → i < cap) (hW : sm_Sw lo hi a13 a14) (hb : ∀ i, i < 8 → hi i < 12 ∧ lo i < 12)
    (H : ∀ a2 a3 a6 a7, sm_E cap lo hi w rm a2 a3 a4 a5 → sm_S cap p a6 a7 → post (nI cap, le, fs, ff, tk, a1, a2, a3, a4, a5, a6, a7, a8, a9, a10, a11, a12, a13, a14, a15)) : ∃ f, wX_makeTable_79 post (nI cap) le fs ff tk f 0 a1 a2 a3 a4 a5 a6 a7 a8 a9 a10 a11 a12 a13 a14 a15 := by
  refine pk_loop (σ := (Nat → Int32) × (Nat → Int32)) (fun n i b => wX_makeTable_79 post (nI cap) le fs ff tk n (nI i) a1 b.1 b.2 a4 a5 a6 a7 a8 a9 a10 a11 a12 a13 a14 a15) (fun i b => ∀ j, j < i → b.1 j = nI (lo j) ∧ b.2 j = nI (hi j)) 8 0 (a2, a3) (by omega) (fun j hj => absurd hj (by omega)) ?_ ?_
  · intro n b h
    refine pk_le 8 8 (fun _ => sm_restore hV hpc (fun c6 c7 hS => H b.1 b.2 c6 c7 ⟨hE.1, fun i hi' => ⟨(hb i hi').1, (hb i hi').2, h i hi'⟩, hE.2.2.1, hE.2.2.2⟩ hS)) (fun z => absurd z (by omega))
  · intro n i b hi' h hw
    have hbi := hb i hi'
    refine pk_le 8 i (fun z => absurd z (by omega)) (fun _ => ⟨pk_in i 8 hi', pk_in i 8 hi', nm_r (by rw [nI_clamp (by omega), (hW i hi').1, vp_nar_byte, sm_b8 _ (by omega)]) ⟨pk_in i 8 hi', pk_in i 8 hi', nm_r (by rw [nI_clamp (by omega), (hW i hi').2, vp_nar_byte, sm_b8 _ (by omega)]) (nm_r (nI_1 i) (hw (upd b.1 i (nI (lo i)), upd b.2 i (nI (hi i))) (lt_s (fun j hj => ?_) ⟨pk_us, pk_us⟩)))⟩⟩)
    show upd b.1 i (nI (lo i)) j = nI (lo j) ∧ upd b.2 i (nI (hi i)) j = nI (hi j)
    rw [pk_un (by omega), pk_un (by omega)]
    exact h j hj
theorem sm_mt49 {post : St1 → Prop} (hV : sm_Sv p a11 a12) (hpc : ∀ i, i < 8 → p i < 12 → i < cap) (hW : sm_Sw lo hi a13 a14) (hb : ∀ i, i < 8 → hi i < 12 ∧ lo i < 12)
    (H : ∀ le fs ff a2 a3 a6 a7 a8 a9 a10 a15 q, sm_E cap lo hi w rm a2 a3 a4 a5 → sm_S cap p a6 a7 → sm_Tb p rm q a15 → post (nI cap, le, fs, ff, tk, a1, a2, a3, a4, a5, a6, a7, a8, a9, a10, a11, a12, a13, a14, a15)) :
    ∀ (f i : Nat) (l h q : Nat → Nat) (le fs ff : Int32) (a2 a3 a6 a7 a8 a9 a10 a15 : Nat → Int32), i ≤ cap → cap < f + i → sm_E cap l h w rm a2 a3 a4 a5 → sm_S cap q a6 a7 → sm_M l h rm q → (∀ j, j < 8 → (q j < 12 ↔ p j < 12)) → (∀ j, j < i → p j < 12 → l j = h j ∧ a15 j = nI (l j)) →
      wX_makeTable_49 post f (nI i) (nI cap) le fs ff tk a1 a2 a3 a4 a5 a6 a7 a8 a9 a10 a11 a12 a13 a14 a15 := by
  intro f
  induction f with
  | zero => intro i l h q le fs ff a2 a3 a6 a7 a8 a9 a10 a15 h1 h2; omega
  | succ f ih =>
    intro i l h q le fs ff a2 a3 a6 a7 a8 a9 a10 a15 h1 h2 hE hS hM hq ht
    have hc := hE.1
    refine pk_le cap i (fun z => sm_mt79 hE hV hpc hW hb (fun c2 c3 c6 c7 s1 s2 => H le fs ff c2 c3 c6 c7 a8 a9 a10 a15 q s1 s2 ⟨hq, fun j hj hp => ?_, hM.2⟩)) (fun z => ⟨pk_in i 8 (by omega), sm_vlt (q i) (fun g => nm_r (nI_1 i) (ih (i + 1) l h q le fs ff a2 a3 a6 a7 a8 a9 a10 a15 (by omega) (by omega) hE hS hM hq (lt_s ht (fun hp => ?_)))) (fun g => sm_fix z hE hS hM g (fun s le fs ff q' c2 c3 c6 c7 c8 c9 c10 hs s1 s2 s3 s4 => nm_r (nI_1 i) (ih (i + 1) (sm_u l i s) (sm_u h i s) q' le fs ff c2 c3 c6 c7 c8 c9 c10 _ (by omega) (by omega) s1 s2 s3 (fun j hj => (s4 j hj).trans (hq j hj)) (lt_s (fun j hj hp => ?_) (fun _ => ?_))))) (sm_at (hS.1 i (by omega)).1)⟩)
    · have := hpc j hj hp
      obtain ⟨t1, t2⟩ := ht j (by omega) hp
      have hw := hM.1 j hj ((hq j hj).mpr hp)
      rw [t2, show l j = q j by omega]
    · have := (hq i (by omega)).mpr hp
      omega
    · rw [sm_un (by omega), sm_un (by omega), pk_un (by omega)]
      exact ht j hj hp
    · rw [sm_us, sm_us, pk_us]
      exact ⟨rfl, rfl⟩
theorem sm_mt {post : St1 → Prop} (hE : sm_E cap lo hi w rm a2 a3 a4 a5) (hS : sm_S cap p a6 a7) (hM : sm_M lo hi rm p)
    (H : ∀ le fs ff a2 a3 a6 a7 a8 a9 a10 a11 a12 a13 a14 a15 q, sm_E cap lo hi w rm a2 a3 a4 a5 → sm_S cap p a6 a7 → sm_Tb p rm q a15 → post (nI cap, le, fs, ff, 1, a1, a2, a3, a4, a5, a6, a7, a8, a9, a10, a11, a12, a13, a14, a15)) : wpX_makeTable post (nI cap, le, fs, ff, tk, a1, a2, a3, a4, a5, a6, a7, a8, a9, a10, a11, a12, a13, a14, a15) := by
  have hb : ∀ i, i < 8 → hi i < 12 ∧ lo i < 12 := fun i hi' => ⟨(hE.2.1 i hi').1, (hE.2.1 i hi').2.1⟩
  refine sm_save hS (fun b11 b12 hV => ?_)
  refine pk_loop (σ := (Nat → Int32) × (Nat → Int32)) (fun n i b => wX_makeTable_11 post (nI cap) le fs ff 1 n (nI i) a1 a2 a3 a4 a5 a6 a7 a8 a9 a10 b11 b12 b.1 b.2 a15) (fun i b => ∀ j, j < i → b.1 j = nI (lo j) ∧ b.2 j = nI (hi j)) 8 0 (a13, a14) (by omega) (fun j hj => absurd hj (by omega)) ?_ ?_
  · intro n b h
    exact pk_le 8 8 (fun _ => ⟨cap + 1, sm_mt49 hV (fun i hi' => (hS.1 i hi').2) h hb (fun le fs ff c2 c3 c6 c7 c8 c9 c10 c15 q s1 s2 s3 => H le fs ff c2 c3 c6 c7 c8 c9 c10 b11 b12 b.1 b.2 c15 q s1 s2 s3) (cap + 1) 0 lo hi p le fs ff a2 a3 a6 a7 a8 a9 a10 a15 (Nat.zero_le _) (by omega) hE hS hM (fun _ _ => Iff.rfl) (fun j hj => absurd hj (by omega))⟩) (fun z => absurd z (by omega))
  · intro n i b hi' h hw
    have hbi := hb i hi'
    have h2 := hE.2.1 i hi'
    refine pk_le 8 i (fun z => absurd z (by omega)) (fun _ => ⟨pk_in i 8 hi', pk_in i 8 hi', nm_r (by rw [nI_clamp (by omega), h2.2.2.1, vp_nar_byte, sm_b8 _ (by omega)]) ⟨pk_in i 8 hi', pk_in i 8 hi', nm_r (by rw [nI_clamp (by omega), h2.2.2.2, vp_nar_byte, sm_b8 _ (by omega)]) (nm_r (nI_1 i) (hw (upd b.1 i (nI (lo i)), upd b.2 i (nI (hi i))) (lt_s (fun j hj => ?_) ⟨pk_us, pk_us⟩)))⟩⟩)
    show upd b.1 i (nI (lo i)) j = nI (lo j) ∧ upd b.2 i (nI (hi i)) j = nI (hi j)
    rw [pk_un (by omega), pk_un (by omega)]
    exact h j hj
/-- slotOf: of a placed job its place in the table, which is made where it isn't known -/
theorem sm_slotOf {post : Int32 → St1 → Prop} {i : Nat} (hi8 : i < 8) (hE : sm_E cap lo hi w rm a2 a3 a4 a5) (hS : sm_S cap p a6 a7) (hM : sm_M lo hi rm p) (hu : ∀ i, i < cap → p i < 12 → a1 i ≠ 0)
    (H0 : 12 ≤ p i → post (-1) (nI cap, le, fs, ff, tk, a1, a2, a3, a4, a5, a6, a7, a8, a9, a10, a11, a12, a13, a14, a15))
    (H1 : ∀ q, p i < 12 → tk ≠ 0 → sm_Tb p rm q a15 → post (nI (q i)) (nI cap, le, fs, ff, tk, a1, a2, a3, a4, a5, a6, a7, a8, a9, a10, a11, a12, a13, a14, a15)) (hT : tk ≠ 0 → ∃ q, sm_Tb p rm q a15)
    (H2 : p i < 12 → tk = 0 → ∀ le fs ff a2 a3 a6 a7 a8 a9 a10 a11 a12 a13 a14 a15 q, sm_E cap lo hi w rm a2 a3 a4 a5 → sm_S cap p a6 a7 → sm_Tb p rm q a15 → post (nI (q i)) (nI cap, le, fs, ff, 1, a1, a2, a3, a4, a5, a6, a7, a8, a9, a10, a11, a12, a13, a14, a15)) : wpX_slotOf post (nI cap, le, fs, ff, tk, a1, a2, a3, a4, a5, a6, a7, a8, a9, a10, a11, a12, a13, a14, a15) (nI i) := by
  unfold wpX_slotOf
  refine sm_holds hi8 hE.1 (fun g1 g2 => br_f (by decide) ⟨pk_in i 8 hi8, sm_vge (p i) (fun g => br_c (fun z => ?_) (fun z => ⟨pk_in i 8 hi8, ?_⟩)) (fun g => H0 g) (sm_at (hS.1 i hi8).1)⟩) (fun z => br_t rfl (H0 ?_))
  · refine sm_mt hE hS hM (fun le fs ff c2 c3 c6 c7 c8 c9 c10 c11 c12 c13 c14 c15 q s1 s2 s3 => ⟨pk_in i 8 hi8, ?_⟩)
    rw [sm_at (a := c15) (n := i) (s3.2.1 i hi8 g)]
    exact H2 g z le fs ff c2 c3 c6 c7 c8 c9 c10 c11 c12 c13 c14 c15 q s1 s2 s3
  · obtain ⟨q, hq⟩ := hT z
    rw [sm_at (a := a15) (n := i) (hq.2.1 i hi8 g)]
    exact H1 q g z hq
  · rcases Nat.lt_or_ge (p i) 12 with y | y
    · have hic := (hS.1 i hi8).2 y
      exact absurd ⟨hic, hu i hic y⟩ z
    · exact y
end
end
section
/-- what holds between two calls -/
def sm_I (cap : Nat) (lo hi w rm p : Nat → Nat) (a1 a2 a3 a4 a5 a6 a7 : Nat → Int32) : Prop :=
  sm_E cap lo hi w rm a2 a3 a4 a5 ∧ sm_S cap p a6 a7 ∧ sm_M lo hi rm p ∧ (∀ i, i < cap → p i < 12 → a1 i ≠ 0) ∧ (∀ i, i < cap → a1 i ≠ 0 → 1 ≤ w i) ∧ (∀ s, s < 12 → rm s ≤ 3) ∧
  (∀ j, j < 8 → (j < cap ∧ a1 j ≠ 0) → 12 ≤ p j → sm_C lo hi rm p (sm_k w) j)
theorem sm_Ck {lo hi rm p k k' : Nat → Nat} {j : Nat} (h : sm_C lo hi rm p k j) (h1 : k' j ≤ k j) (h2 : ∀ i, i < 8 → p i < 12 → k i ≤ k' i) : sm_C lo hi rm p k' j := by
  obtain ⟨Q, q1, q2, q3⟩ := h
  refine ⟨Q, q1, q2, fun i hi hp hw => ?_⟩
  have e1 := q3 i hi hp hw
  have e2 := h2 i hi hp
  omega
theorem sm_Dk {lo hi rm p k k' : Nat → Nat} {t a b j : Nat} {z : Nat → Prop} (h : sm_D lo hi rm p k t a b z j) (h1 : k' j ≤ k j) (h2 : ∀ i, i < 8 → p i < 12 → k i ≤ k' i) : sm_D lo hi rm p k' t a b z j := by
  obtain ⟨Q, q1, q2, q3, q4⟩ := h
  refine ⟨Q, q1, q2, fun i hi hp hw => ?_, q4⟩
  have e1 := q3 i hi hp hw
  have e2 := h2 i hi hp
  omega
theorem sm_ku {w : Nat → Nat} {d x i : Nat} (h : i ≠ d) : sm_k (sm_u w d x) i = sm_k w i := by
  unfold sm_k
  rw [sm_un h]
theorem sm_Cext {lo hi lo' hi' rm p k k' : Nat → Nat} {d j : Nat} (hl : ∀ i, i ≠ d → lo' i = lo i) (hh : ∀ i, i ≠ d → hi' i = hi i) (hk : ∀ i, i ≠ d → k' i = k i) (hd : 12 ≤ p d) (hj : j ≠ d) (h : sm_C lo hi rm p k j) : sm_C lo' hi' rm p k' j := by
  have hw : ∀ i (Q : Nat → Prop), i ≠ d → (sm_w lo' hi' i Q ↔ sm_w lo hi i Q) := fun i Q hne => by
    unfold sm_w
    rw [hl i hne, hh i hne]
  have hne : ∀ i, p i < 12 → i ≠ d := fun i hp e => by rw [e] at hp; omega
  obtain ⟨Q, q1, q2, q3⟩ := h
  refine ⟨Q, (hw j Q hj).mpr q1, ?_, fun i hi hp hwi => ?_⟩
  · rw [← q2]
    exact sm_sc 8 (fun i hi => sm_icg ⟨fun z => ⟨z.1, (hw i Q (hne i z.1)).mp z.2⟩, fun z => ⟨z.1, (hw i Q (hne i z.1)).mpr z.2⟩⟩)
  · rw [hk j hj, hk i (hne i hp)]
    exact q3 i hi hp ((hw i Q (hne i hp)).mp hwi)
theorem sm_Xsub {lo hi rm p k p' : Nat → Nat} {d : Nat} (h : sm_X lo hi rm p k d p') : ∀ i, i < 8 → p' i < 12 → p i < 12 ∨ i = d := fun i hi hp => by
  rcases h with ⟨hA, _⟩ | ⟨e, _⟩ | ⟨R, l, _, _, _, _, _, _, _, hP⟩
  · exact (hA i hi).mp hp
  · rw [e] at hp; exact Or.inl hp
  · exact ((hP i hi).mp hp).elim (fun z => Or.inl z.1) Or.inr
theorem sm_Sm {cap d : Nat} {p : Nat → Nat} {a6 a7 : Nat → Int32} (hS : sm_S cap p a6 a7) (hp : 12 ≤ p d) : sm_S cap p (upd a6 d (-1)) a7 := by
  refine ⟨fun i hi => ?_, hS.2⟩
  by_cases e : i = d
  · subst e
    rw [pk_us, sm_v0 hp]
    exact ⟨rfl, fun z => by omega⟩
  · rw [pk_un e]
    exact hS.1 i hi
section
variable {cap : Nat} {lo hi w rm p : Nat → Nat} {le fs ff tk : Int32} {a1 a2 a3 a4 a5 a6 a7 a8 a9 a10 a11 a12 a13 a14 a15 : Nat → Int32}
theorem sm_conI {post : St1 → Prop} {d : Nat} (hE : sm_E cap lo hi w rm a2 a3 a4 a5) (hS : sm_S cap p a6 a7) (hM : sm_M lo hi rm p) (hd : d < cap) (hpd : 12 ≤ p d) (hu : ∀ i, i < cap → p i < 12 → a1 i ≠ 0) (hud : a1 d ≠ 0) (hw : ∀ i, i < cap → a1 i ≠ 0 → 1 ≤ w i) (h3 : ∀ s, s < 12 → rm s ≤ 3)
    (hO : ∀ j, j < 8 → (j < cap ∧ a1 j ≠ 0) → 12 ≤ p j → j ≠ d → sm_C lo hi rm p (sm_k w) j)
    (H : ∀ le fs ff p a6 a7 a8 a9 a10, sm_I cap lo hi w rm p a1 a2 a3 a4 a5 a6 a7 → post (nI cap, le, fs, ff, tk, a1, a2, a3, a4, a5, a6, a7, a8, a9, a10, a11, a12, a13, a14, a15)) : wpX_contest post (nI cap, le, fs, ff, tk, a1, a2, a3, a4, a5, a6, a7, a8, a9, a10, a11, a12, a13, a14, a15) (nI d) := by
  have hc := hE.1
  refine sm_contest hE hS hM hd hpd (fun le fs ff p' c6 c7 c8 c9 c10 s1 hX => H le fs ff p' c6 c7 c8 c9 c10 ?_)
  obtain ⟨m1, m2⟩ := sm_Con (show d < 8 by omega) hM hpd (sm_kinj w) hO hX
  refine ⟨hE, s1, m1, fun i hi hp => ?_, hw, h3, fun j hj hA hp => m2 j hj (Or.inr (Or.inr hA)) hp⟩
  rcases sm_Xsub hX i (by omega) hp with q | q
  · exact hu i hi q
  · rw [q]; exact hud
/-- fillFromBest, where the room of one place t came free -/
theorem sm_filI {post : St1 → Prop} {t a b d : Nat} {rm' : Nat → Nat} (hE : sm_E cap lo hi w rm a2 a3 a4 a5) (hS : sm_S cap p a6 a7) (hM' : sm_M lo hi rm' p) (ht : t < 12) (h1 : rm t = rm' t + 1) (h2 : ∀ s, s < 12 → s ≠ t → rm s = rm' s) (hab : a ≤ t ∧ t ≤ b)
    (hu : ∀ i, i < cap → p i < 12 → a1 i ≠ 0) (hw : ∀ i, i < cap → a1 i ≠ 0 → 1 ≤ w i) (h3 : ∀ s, s < 12 → rm s ≤ 3)
    (hO : ∀ j, j < 8 → (j < cap ∧ a1 j ≠ 0) → 12 ≤ p j → j ≠ d → sm_D lo hi rm' p (sm_k w) t a b (fun _ => True) j) (hd : (d < cap ∧ a1 d ≠ 0) → d < 8 → 12 ≤ p d → lo d = a ∧ hi d = b)
    (H : ∀ le fs ff p a6 a7 a8 a9 a10, sm_I cap lo hi w rm p a1 a2 a3 a4 a5 a6 a7 → post (nI cap, le, fs, ff, tk, a1, a2, a3, a4, a5, a6, a7, a8, a9, a10, a11, a12, a13, a14, a15)) : wpX_fillFromBest post (nI cap, le, fs, ff, tk, a1, a2, a3, a4, a5, a6, a7, a8, a9, a10, a11, a12, a13, a14, a15) := by
  have hc := hE.1
  have hM : sm_M lo hi rm p := sm_MF hM' (fun s hs => by
    by_cases e : s = t
    · rw [e, h1]; omega
    · rw [h2 s hs e]; exact Nat.le_refl _)
  refine sm_fill hE hS hM (fun le fs ff p' c6 c7 c8 c9 c10 s1 hN => H le fs ff p' c6 c7 c8 c9 c10 ?_)
  obtain ⟨m1, m2, m3⟩ := sm_Fill (fun i hi => (hE.2.1 i hi).1) hM' ht h1 h2 (sm_kinj w) hab hO hd hN
  refine ⟨hE, s1, m1, fun i hi hp => ?_, hw, h3, m2⟩
  rcases m3 with e | ⟨r, _, hAr, _, hA, _⟩
  · rw [e] at hp; exact hu i hi hp
  · rcases (hA i (by omega)).mp hp with q | q
    · exact hu i hi q
    · rw [q]; exact hAr.2
theorem sm_bring {post : Int32 → St1 → Prop} {x y z : Nat} (hy : y < 12) (hxy : x ≤ y) (hz : 1 ≤ z) (hz2 : z ≤ 20) (hI : sm_I cap lo hi w rm p a1 a2 a3 a4 a5 a6 a7)
    (H : ∀ r le fs ff lo hi w rm p a1 a2 a3 a4 a5 a6 a7 a8 a9 a10, sm_I cap lo hi w rm p a1 a2 a3 a4 a5 a6 a7 → post r (nI cap, le, fs, ff, 0, a1, a2, a3, a4, a5, a6, a7, a8, a9, a10, a11, a12, a13, a14, a15)) : wpX_bring post (nI cap, le, fs, ff, 0, a1, a2, a3, a4, a5, a6, a7, a8, a9, a10, a11, a12, a13, a14, a15) (nI x) (nI y) (nI z) := by
  obtain ⟨hE, hS, hM, hu, hw, h3, hO⟩ := id hI
  have hc := hE.1
  refine br_f (nI_pos (by omega)) (pk_lt y x (fun q => absurd q (by omega)) (fun _ => pk_lt 11 y (fun q => absurd q (by omega)) (fun _ => pk_lt z 1 (fun q => absurd q (by omega)) (fun _ => pk_le z 20 (fun _ => ?_) (fun q => absurd q (by omega))))))
  refine pk_loop (σ := Unit) (fun n i _ => wX_bring_31 post (nI x) (nI y) (nI z) (nI cap) le fs ff 0 a1 a2 a3 a4 a5 a6 a7 a8 a9 a10 a11 a12 a13 a14 a15 n (nI i)) (fun _ _ => True) cap 0 () (Nat.zero_le _) trivial (fun n _ _ => pk_le cap cap (fun _ => H _ _ _ _ _ _ _ _ _ _ _ _ _ _ _ _ _ _ _ hI) (fun z => absurd z (by omega))) ?_
  intro n i _ hi' _ hn
  have e8 : i < 8 := by omega
  refine pk_le cap i (fun z => absurd z (by omega)) (fun _ => ⟨pk_in i 8 e8, br_c (fun g => ⟨pk_in i 8 e8, nm_r (e' := upd a1 i 1) (by rw [nI_clamp (by omega)]) ⟨pk_in i 8 e8, nm_r (e' := upd a2 i (nI x)) (by rw [nI_clamp (by omega), sm_b8 x (by omega)]) ⟨pk_in i 8 e8, nm_r (e' := upd a3 i (nI y)) (by rw [nI_clamp (by omega), sm_b8 y (by omega)]) ⟨pk_in i 8 e8, nm_r (e' := upd a4 i (nI z)) (by rw [nI_clamp (by omega), sm_b8 z (by omega)]) ⟨pk_in i 8 e8, nm_r (e' := upd a6 i (-1)) (by rw [nI_clamp (by omega)]) ?_⟩⟩⟩⟩⟩) (fun g => nm_r (nI_1 i) (hn () trivial))⟩)
  have g0 : a1 i = 0 := (sm_at rfl).symm.trans g
  have hpi : 12 ≤ p i := by
    rcases Nat.lt_or_ge (p i) 12 with q | q
    · exact absurd g0 (hu i hi' q)
    · exact q
  have hne : ∀ k, p k < 12 → k ≠ i := fun k hp e => by rw [e] at hp; omega
  have hE' : sm_E cap (sm_u lo i x) (sm_u hi i y) (sm_u w i z) rm (upd a2 i (nI x)) (upd a3 i (nI y)) (upd a4 i (nI z)) a5 := by
    obtain ⟨x1, x2, x3, x4⟩ := hE
    refine ⟨x1, fun k hk => ?_, fun k hk => ?_, x4⟩
    · by_cases e : k = i
      · subst e
        rw [sm_us, sm_us, pk_us, pk_us]
        exact ⟨hy, by omega, rfl, rfl⟩
      · rw [sm_un e, sm_un e, pk_un e, pk_un e]
        exact x2 k hk
    · by_cases e : k = i
      · subst e
        rw [sm_us, pk_us]
        exact ⟨hz2, rfl⟩
      · rw [sm_un e, pk_un e]
        exact x3 k hk
  refine sm_conI hE' (sm_Sm hS hpi) ⟨fun k hk hp => ?_, hM.2⟩ hi' hpi (fun k hk hp => ?_) (by rw [pk_us]; decide) (fun k hk hk1 => ?_) h3 (fun j hj hA hp hji => ?_) (fun le fs ff p' c6 c7 c8 c9 c10 hI' => H _ le fs ff _ _ _ _ p' _ _ _ _ _ c6 c7 c8 c9 c10 hI')
  · rw [sm_un (f := lo) (hne k hp), sm_un (f := hi) (hne k hp)]
    exact hM.1 k hk hp
  · rw [pk_un (hne k hp)]
    exact hu k hk hp
  · by_cases e : k = i
    · rw [e, sm_us]; exact hz
    · rw [pk_un e] at hk1
      rw [sm_un e]
      exact hw k hk hk1
  · refine sm_Cext (d := i) (fun k h => sm_un h) (fun k h => sm_un h) (fun k h => sm_ku h) hpi hji (hO j hj ⟨hA.1, ?_⟩ hp)
    have := hA.2
    rw [pk_un hji] at this
    exact this
/-- d has left its seat: what the rest is -/
theorem sm_left {d : Nat} (hd : d < 8) (hM : sm_M lo hi rm p) (g : p d < 12) : rm (p d) = sm_u rm (p d) (rm (p d) - 1) (p d) + 1 ∧ (∀ s, s < 12 → s ≠ p d → rm s = sm_u rm (p d) (rm (p d) - 1) s) ∧ 12 ≤ sm_u p d 12 d ∧ sm_M lo hi (sm_u rm (p d) (rm (p d) - 1)) (sm_u p d 12) := by
  have hl := sm_ldp (p := p) hd
  have hlr := hM.2 (p d) g
  have g2 : 12 ≤ sm_u p d 12 d := by rw [sm_us]; exact Nat.le_refl _
  refine ⟨by rw [sm_us]; omega, fun s _ h => (sm_un h).symm, g2, sm_VM hd hM.1 (fun j _ h => sm_un h) g2 (fun t ht => ?_)⟩
  have := hM.2 t ht
  by_cases e' : t = p d
  · subst e'; rw [sm_us, sm_i1 rfl]; omega
  · rw [sm_un e']; omega
theorem sm_take {post : Int32 → St1 → Prop} {d : Nat} (hd : d < 8) (hI : sm_I cap lo hi w rm p a1 a2 a3 a4 a5 a6 a7)
    (H : ∀ r le fs ff lo hi w rm p a1 a2 a3 a4 a5 a6 a7 a8 a9 a10, sm_I cap lo hi w rm p a1 a2 a3 a4 a5 a6 a7 → post r (nI cap, le, fs, ff, 0, a1, a2, a3, a4, a5, a6, a7, a8, a9, a10, a11, a12, a13, a14, a15)) : wpX_take post (nI cap, le, fs, ff, 0, a1, a2, a3, a4, a5, a6, a7, a8, a9, a10, a11, a12, a13, a14, a15) (nI d) := by
  obtain ⟨hE, hS, hM, hu, hw, h3, hO⟩ := id hI
  have hc := hE.1
  have hA0 : ∀ j, upd a1 d 0 j ≠ 0 → j ≠ d ∧ a1 j ≠ 0 := fun j hj => by
    have hne : j ≠ d := fun e => by
      rw [e, pk_us] at hj
      exact hj rfl
    rw [pk_un hne] at hj
    exact ⟨hne, hj⟩
  unfold wpX_take
  refine sm_holds hd hc (fun hdc hud => br_f (by decide) ⟨pk_in d 8 hd, sm_vlt (p d) (fun g => ⟨pk_in d 8 hd, nm_r (e' := upd a1 d 0) (by rw [nI_clamp (by omega)]) (H _ _ _ _ lo hi w rm p _ _ _ _ _ _ _ _ _ _ ?_)⟩) (fun g => ?_) (sm_at (hS.1 d hd).1)⟩) (fun _ => br_t rfl (H _ _ _ _ _ _ _ _ _ _ _ _ _ _ _ _ _ _ _ hI))
  · refine ⟨hE, hS, hM, fun i hi' hp => ?_, fun i hi' h => hw i hi' (hA0 i h).2, h3, fun j hj hA hp => hO j hj ⟨hA.1, (hA0 j hA.2).2⟩ hp⟩
    rw [pk_un (fun e => by rw [e] at hp; omega)]
    exact hu i hi' hp
  · obtain ⟨hrt, hrs, g2, hM1⟩ := sm_left hd hM g
    refine sm_vacate hd hS (fun c6 c7 hS1 => ⟨pk_in d 8 hd, nm_r (e' := upd a1 d 0) (by rw [nI_clamp (by omega)]) ?_⟩)
    refine sm_filI (d := d) hE hS1 hM1 g hrt hrs (hM.1 d hd g) (fun i hi' hp => ?_) (fun i hi' h => hw i hi' (hA0 i h).2) h3 (fun j hj hA hp hne => sm_Vac hd hM rfl g hrt hrs (fun i _ h => sm_un h) g2 (fun _ _ => trivial) (hO j hj ⟨hA.1, (hA0 j hA.2).2⟩ (by rw [sm_un hne] at hp; exact hp))) (fun hA => absurd rfl (hA0 d hA.2).1) (fun le fs ff p' f6 f7 f8 f9 f10 hI' => ⟨pk_in d 8 hd, nm_r (e' := upd a1 d 0) (by rw [nI_clamp (by omega), sm_uu]) (H _ _ _ _ lo hi w rm p' _ _ _ _ _ _ _ _ _ _ hI')⟩)
    have hne : i ≠ d := fun e => by rw [e, sm_us] at hp; omega
    rw [sm_un hne] at hp
    rw [pk_un hne]
    exact hu i hi' hp
theorem sm_revalue {post : Int32 → St1 → Prop} {d z : Nat} (hd : d < 8) (hz : 1 ≤ z) (hz2 : z ≤ 20) (hI : sm_I cap lo hi w rm p a1 a2 a3 a4 a5 a6 a7)
    (H : ∀ r le fs ff lo hi w rm p a1 a2 a3 a4 a5 a6 a7 a8 a9 a10, sm_I cap lo hi w rm p a1 a2 a3 a4 a5 a6 a7 → post r (nI cap, le, fs, ff, 0, a1, a2, a3, a4, a5, a6, a7, a8, a9, a10, a11, a12, a13, a14, a15)) : wpX_revalue post (nI cap, le, fs, ff, 0, a1, a2, a3, a4, a5, a6, a7, a8, a9, a10, a11, a12, a13, a14, a15) (nI d) (nI z) := by
  obtain ⟨hE, hS, hM, hu, hw, h3, hO⟩ := id hI
  have hc := hE.1
  have hE' : sm_E cap lo hi (sm_u w d z) rm a2 a3 (upd a4 d (nI z)) a5 := by
    obtain ⟨x1, x2, x3, x4⟩ := hE
    refine ⟨x1, x2, fun k hk => ?_, x4⟩
    by_cases e : k = d
    · subst e
      rw [sm_us, pk_us]
      exact ⟨hz2, rfl⟩
    · rw [sm_un e, pk_un e]
      exact x3 k hk
  have hw' : ∀ i, i < cap → a1 i ≠ 0 → 1 ≤ sm_u w d z i := fun i hi' h => by
    by_cases e : i = d
    · rw [e, sm_us]; exact hz
    · rw [sm_un e]; exact hw i hi' h
  have h4 := hE.2.2.1 d hd
  have hkd : sm_k (sm_u w d z) d = 8 * z + (7 - d) := by unfold sm_k; rw [sm_us]
  have hkd0 : sm_k w d = 8 * w d + (7 - d) := rfl
  unfold wpX_revalue
  refine sm_holds hd hc (fun hdc hud => br_f (by decide) (pk_lt z 1 (fun q => absurd q (by omega)) (fun _ => pk_le z 20 (fun _ => ⟨pk_in d 8 hd, nm_r (sm_at h4.2) ⟨pk_in d 8 hd, nm_r (e' := upd a4 d (nI z)) (by rw [nI_clamp (by omega), sm_b8 z (by omega)]) ⟨pk_in d 8 hd, sm_vge (p d) (fun g => ?_) (fun g => pk_le z (w d) (fun q => ?_) (fun q => ?_)) (sm_at (hS.1 d hd).1)⟩⟩⟩) (fun q => absurd q (by omega))))) (fun _ => br_t rfl (H _ _ _ _ _ _ _ _ _ _ _ _ _ _ _ _ _ _ _ hI))
  · refine ⟨pk_in d 8 hd, sm_vlt (p d) (fun q => by omega) (fun _ => pk_le (w d) z (fun q => H _ _ _ _ lo hi (sm_u w d z) rm p _ _ _ _ _ _ _ _ _ _ ⟨hE', hS, hM, hu, hw', h3, fun j hj hA hp => sm_Ck (hO j hj hA hp) ?_ (fun i hi' hpi => ?_)⟩) (fun q => ?_)) (sm_at (hS.1 d hd).1)⟩
    · rw [sm_ku (fun e => by rw [e] at hp; omega)]; exact Nat.le_refl _
    · by_cases e : i = d
      · rw [e]; omega
      · rw [sm_ku e]; exact Nat.le_refl _
    · obtain ⟨hrt, hrs, g2, hM1⟩ := sm_left hd hM g
      refine sm_vacate hd hS (fun c6 c7 hS1 => sm_filI (d := d) hE' hS1 hM1 g hrt hrs (hM.1 d hd g) (fun i hi' hp => ?_) hw' h3 (fun j hj hA hp hne => sm_Dk (sm_Vac hd hM rfl g hrt hrs (fun i _ h => sm_un h) g2 (fun _ _ => trivial) (hO j hj hA (by rw [sm_un hne] at hp; exact hp))) (by rw [sm_ku hne]; exact Nat.le_refl _) (fun i hi' hp' => ?_)) (fun _ _ _ => ⟨rfl, rfl⟩) (fun le fs ff p' f6 f7 f8 f9 f10 hI' => H _ _ _ _ lo hi (sm_u w d z) rm p' _ _ _ _ _ _ _ _ _ _ hI'))
      · have hne : i ≠ d := fun e => by rw [e, sm_us] at hp; omega
        rw [sm_un hne] at hp
        exact hu i hi' hp
      · have hne : i ≠ d := fun e => by rw [e, sm_us] at hp'; omega
        rw [sm_ku hne]; exact Nat.le_refl _
  · refine ⟨pk_in d 8 hd, sm_vlt (p d) (fun _ => H _ _ _ _ lo hi (sm_u w d z) rm p _ _ _ _ _ _ _ _ _ _ ⟨hE', hS, hM, hu, hw', h3, fun j hj hA hp => sm_Ck (hO j hj hA hp) ?_ (fun i hi' hpi => ?_)⟩) (fun y => by omega) (sm_at (hS.1 d hd).1)⟩
    · by_cases e : j = d
      · rw [e]; omega
      · rw [sm_ku e]; exact Nat.le_refl _
    · rw [sm_ku (fun e => by rw [e] at hpi; omega)]; exact Nat.le_refl _
  · refine sm_conI hE' hS hM hdc g hu hud hw' h3 (fun j hj hA hp hne => sm_Ck (hO j hj hA hp) (by rw [sm_ku hne]; exact Nat.le_refl _) (fun i hi' hpi => by rw [sm_ku (fun e => by rw [e] at hpi; omega)]; exact Nat.le_refl _)) (fun le fs ff p' c6 c7 c8 c9 c10 hI' => ⟨pk_in d 8 hd, br_c (fun _ => H _ _ _ _ lo hi (sm_u w d z) rm p' _ _ _ _ _ _ _ _ _ _ hI') (fun _ => pk_le (w d) z (fun _ => H _ _ _ _ lo hi (sm_u w d z) rm p' _ _ _ _ _ _ _ _ _ _ hI') (fun y => absurd y (by omega)))⟩)
theorem sm_widI {post : St1 → Prop} {s : Nat} (hs : s < 12) (hI : sm_I cap lo hi w rm p a1 a2 a3 a4 a5 a6 a7) (h2 : rm s ≤ 2)
    (H : ∀ le fs ff p a5 a6 a7 a8 a9 a10, sm_I cap lo hi w (sm_u rm s (rm s + 1)) p a1 a2 a3 a4 a5 a6 a7 → post (nI cap, le, fs, ff, tk, a1, a2, a3, a4, a5, a6, a7, a8, a9, a10, a11, a12, a13, a14, a15)) : wpX_widen post (nI cap, le, fs, ff, tk, a1, a2, a3, a4, a5, a6, a7, a8, a9, a10, a11, a12, a13, a14, a15) (nI s) := by
  obtain ⟨hE, hS, hM, hu, hw, h3, hO⟩ := hI
  have hc := hE.1
  refine sm_widen hs hE (h3 s hs) hS hM (fun le fs ff p' c5 c6 c7 c8 c9 c10 hE' hS' hN => H le fs ff p' c5 c6 c7 c8 c9 c10 ?_)
  obtain ⟨m1, m2, m3⟩ := sm_Fill (t := s) (a := s) (b := s) (d := 8) (z := fun _ => True) (fun i hi => (hE.2.1 i hi).1) hM hs (by rw [sm_us]) (fun t _ h => sm_un h) (sm_kinj w) ⟨Nat.le_refl _, Nat.le_refl _⟩ (fun j hj hA hp _ => sm_CD (hO j hj hA hp)) (fun _ h => absurd h (by omega)) hN
  refine ⟨hE', hS', m1, fun i hi hp => ?_, hw, fun t ht => ?_, m2⟩
  · rcases m3 with e | ⟨r, _, hAr, _, hA, _⟩
    · rw [e] at hp; exact hu i hi hp
    · rcases (hA i (by omega)).mp hp with q | q
      · exact hu i hi q
      · rw [q]; exact hAr.2
  · by_cases e : t = s
    · rw [e, sm_us]; omega
    · rw [sm_un e]; exact h3 t ht
theorem sm_narI {post : St1 → Prop} {s : Nat} (hs : s < 12) (hI : sm_I cap lo hi w rm p a1 a2 a3 a4 a5 a6 a7) (h1 : 1 ≤ rm s)
    (H : ∀ le fs ff p a5 a6 a7 a8 a9 a10, sm_I cap lo hi w (sm_u rm s (rm s - 1)) p a1 a2 a3 a4 a5 a6 a7 → post (nI cap, le, fs, ff, tk, a1, a2, a3, a4, a5, a6, a7, a8, a9, a10, a11, a12, a13, a14, a15)) : wpX_narrow post (nI cap, le, fs, ff, tk, a1, a2, a3, a4, a5, a6, a7, a8, a9, a10, a11, a12, a13, a14, a15) (nI s) := by
  obtain ⟨hE, hS, hM, hu, hw, h3, hO⟩ := hI
  have hc := hE.1
  refine sm_narrow hs hE h1 hS hM (fun le fs ff p' c5 c6 c7 c8 c9 c10 hE' hS' hY => H le fs ff p' c5 c6 c7 c8 c9 c10 ?_)
  have h3' : ∀ t, t < 12 → sm_u rm s (rm s - 1) t ≤ 3 := fun t ht => by
    have := h3 t ht
    by_cases e : t = s
    · subst e; rw [sm_us]; omega
    · rw [sm_un e]; exact this
  have hrt : rm s = sm_u rm s (rm s - 1) s + 1 := by rw [sm_us]; omega
  have hrs : ∀ t, t < 12 → t ≠ s → rm t = sm_u rm s (rm s - 1) t := fun t _ h => (sm_un h).symm
  rcases hY with ⟨e, hl⟩ | ⟨i, hi', e, hM1, hX⟩
  · subst e
    refine ⟨hE', hS', ⟨hM.1, fun t ht => ?_⟩, hu, hw, h3', fun j hj hA hp => ?_⟩
    · by_cases e : t = s
      · rw [e]; exact hl
      · rw [sm_un e]; exact hM.2 t ht
    · obtain ⟨Q, q1, q2, q3⟩ := hO j hj hA hp
      refine ⟨Q, q1, ?_, q3⟩
      have e := sm_r1 hs hrt hrs Q
      rw [sm_i0 (P := Q s) (fun q => by
        have := (sm_f2 hM q2).1 s hs q
        omega)] at e
      omega
  · have e8 : i < 8 := by omega
    subst e
    obtain ⟨_, _, g2, _⟩ := sm_left e8 hM hs
    have hC : ∀ j, j < 8 → (j < cap ∧ a1 j ≠ 0) → 12 ≤ sm_u p i 12 j → j ≠ i → sm_C lo hi (sm_u rm (p i) (rm (p i) - 1)) (sm_u p i 12) (sm_k w) j := fun j hj hA hp hne =>
      sm_DC (sm_Vac (z := fun _ => True) e8 hM rfl hs hrt hrs (fun i _ h => sm_un h) g2 (fun _ _ => trivial) (hO j hj hA (by rw [sm_un hne] at hp; exact hp)))
    obtain ⟨m1, m2⟩ := sm_Con (A := fun j => j < cap ∧ a1 j ≠ 0) e8 hM1 g2 (sm_kinj w) hC hX
    refine ⟨hE', hS', m1, fun k hk hp => ?_, hw, h3', fun j hj hA hp => m2 j hj (Or.inr (Or.inr hA)) hp⟩
    rcases sm_Xsub hX k (by omega) hp with q | q
    · refine hu k hk ?_
      by_cases e : k = i
      · rw [e]; exact hs
      · rw [sm_un e] at q; exact q
    · rw [q]; exact hu i hi' hs
theorem sm_sr56 {post : Int32 → St1 → Prop} {s n : Nat} (hs : s < 12) (hn : n ≤ 3)
    (H : ∀ r le fs ff lo hi w rm p a1 a2 a3 a4 a5 a6 a7 a8 a9 a10, sm_I cap lo hi w rm p a1 a2 a3 a4 a5 a6 a7 → post r (nI cap, le, fs, ff, 0, a1, a2, a3, a4, a5, a6, a7, a8, a9, a10, a11, a12, a13, a14, a15)) :
    ∀ (f k : Nat) (rm p : Nat → Nat) (le fs ff : Int32) (a5 a6 a7 a8 a9 a10 : Nat → Int32), k ≤ 3 → 3 < f + k → sm_I cap lo hi w rm p a1 a2 a3 a4 a5 a6 a7 → wX_setRoom_56 post (nI s) (nI n) f (nI k) (nI cap) le fs ff 0 a1 a2 a3 a4 a5 a6 a7 a8 a9 a10 a11 a12 a13 a14 a15 := by
  intro f
  induction f with
  | zero => intro k rm p le fs ff a5 a6 a7 a8 a9 a10 h1 h2; omega
  | succ f ih =>
    intro k rm p le fs ff a5 a6 a7 a8 a9 a10 h1 h2 hI
    have h5 := hI.1.2.2.2 s hs
    exact pk_le 3 k (fun _ => H _ _ _ _ _ _ _ _ _ _ _ _ _ _ _ _ _ _ _ hI) (fun z => ⟨pk_in s 12 hs, pk_le (rm s) n (fun _ => H _ _ _ _ _ _ _ _ _ _ _ _ _ _ _ _ _ _ _ hI) (fun q => sm_narI hs hI (by omega) (fun le fs ff p' c5 c6 c7 c8 c9 c10 hI' => nm_r (nI_1 k) (ih (k + 1) _ p' le fs ff c5 c6 c7 c8 c9 c10 (by omega) (by omega) hI'))) (sm_at h5.2)⟩)
theorem sm_sr28 {post : Int32 → St1 → Prop} {s n : Nat} (hs : s < 12) (hn : n ≤ 3)
    (H : ∀ r le fs ff lo hi w rm p a1 a2 a3 a4 a5 a6 a7 a8 a9 a10, sm_I cap lo hi w rm p a1 a2 a3 a4 a5 a6 a7 → post r (nI cap, le, fs, ff, 0, a1, a2, a3, a4, a5, a6, a7, a8, a9, a10, a11, a12, a13, a14, a15)) :
    ∀ (f k : Nat) (rm p : Nat → Nat) (le fs ff : Int32) (a5 a6 a7 a8 a9 a10 : Nat → Int32), k ≤ 3 → 3 < f + k → sm_I cap lo hi w rm p a1 a2 a3 a4 a5 a6 a7 → wX_setRoom_28 post (nI s) (nI n) f (nI k) (nI cap) le fs ff 0 a1 a2 a3 a4 a5 a6 a7 a8 a9 a10 a11 a12 a13 a14 a15 := by
  intro f
  induction f with
  | zero => intro k rm p le fs ff a5 a6 a7 a8 a9 a10 h1 h2; omega
  | succ f ih =>
    intro k rm p le fs ff a5 a6 a7 a8 a9 a10 h1 h2 hI
    have h5 := hI.1.2.2.2 s hs
    have fin : ∃ g, wX_setRoom_56 post (nI s) (nI n) g 0 (nI cap) le fs ff 0 a1 a2 a3 a4 a5 a6 a7 a8 a9 a10 a11 a12 a13 a14 a15 := ⟨4, sm_sr56 hs hn H 4 0 rm p le fs ff a5 a6 a7 a8 a9 a10 (by omega) (by omega) hI⟩
    exact pk_le 3 k (fun _ => fin) (fun z => ⟨pk_in s 12 hs, pk_le n (rm s) (fun _ => fin) (fun q => sm_widI hs hI (by omega) (fun le fs ff p' c5 c6 c7 c8 c9 c10 hI' => nm_r (nI_1 k) (ih (k + 1) _ p' le fs ff c5 c6 c7 c8 c9 c10 (by omega) (by omega) hI'))) rfl (sm_at h5.2)⟩)
theorem sm_setRoom {post : Int32 → St1 → Prop} {s n : Nat} (hs : s < 12) (hn : n ≤ 3) (hI : sm_I cap lo hi w rm p a1 a2 a3 a4 a5 a6 a7)
    (H : ∀ r le fs ff lo hi w rm p a1 a2 a3 a4 a5 a6 a7 a8 a9 a10, sm_I cap lo hi w rm p a1 a2 a3 a4 a5 a6 a7 → post r (nI cap, le, fs, ff, 0, a1, a2, a3, a4, a5, a6, a7, a8, a9, a10, a11, a12, a13, a14, a15)) : wpX_setRoom post (nI cap, le, fs, ff, 0, a1, a2, a3, a4, a5, a6, a7, a8, a9, a10, a11, a12, a13, a14, a15) (nI s) (nI n) :=
  br_f (nI_pos (by omega)) (pk_lt 11 s (fun q => absurd q (by omega)) (fun _ => br_f (nI_pos (by omega)) (pk_le n 3 (fun _ => ⟨4, sm_sr28 hs hn H 4 0 rm p le fs ff a5 a6 a7 a8 a9 a10 (by omega) (by omega) hI⟩) (fun q => absurd q (by omega)))))
end
end
section
theorem sm_add0 (n : Nat) : nI n + 0 = nI n := Int32.add_zero _
theorem sm_turnbits (x : Int32) (s m : Int32) (k : Nat) (hm : m.toBitVec.toNat = 2 ^ k - 1) : ∃ j : Nat, j < 2 ^ k ∧ (x >>> s) &&& m = nI j := pk_andE _ k hm
section
variable {cap : Nat} {lo hi w rm p : Nat → Nat} {le fs ff tk : Int32} {a1 a2 a3 a4 a5 a6 a7 a8 a9 a10 a11 a12 a13 a14 a15 : Nat → Int32}
theorem sm_turn31 {post : St1 → Prop} {x1 x3 : Int32} {x y : Nat} (hy : y < 12) (hxy : x ≤ y) (hI : sm_I cap lo hi w rm p a1 a2 a3 a4 a5 a6 a7)
    (H : ∀ le fs ff lo hi w rm p a1 a2 a3 a4 a5 a6 a7 a8 a9 a10, sm_I cap lo hi w rm p a1 a2 a3 a4 a5 a6 a7 → post (nI cap, le, fs, ff, 0, a1, a2, a3, a4, a5, a6, a7, a8, a9, a10, a11, a12, a13, a14, a15)) : wL_turn_31 post x1 x3 (nI x) (nI y) (nI cap) le fs ff 0 a1 a2 a3 a4 a5 a6 a7 a8 a9 a10 a11 a12 a13 a14 a15 := by
  obtain ⟨j, hj, ej⟩ := sm_turnbits x3 ((2 : Int32) &&& 31) 4095 12 (by decide)
  obtain ⟨d, hd, ed⟩ := sm_turnbits x3 ((14 : Int32) &&& 31) 7 3 (by decide)
  obtain ⟨m, hm, em⟩ := pk_andE x3 (m := 3) 2 (by decide)
  have er : (nI j - nI j / 20 * 20 : Int32) = nI (j % 20) := pk_rem (d := 20) (by omega) (by omega) (by omega)
  have e1 : (1 + nI (j % 20) : Int32) = nI (1 + j % 20) := nI_add 1 (j % 20)
  have hr : j % 20 < 20 := Nat.mod_lt _ (by omega)
  refine ⟨by decide, nm_r (e' := nI (1 + j % 20)) (by rw [ej, er, e1]) (nm_r ed (br_c (fun _ => br_c (fun _ => br_c (fun _ => ?_) (fun _ => ?_)) (fun _ => ?_)) (fun _ => ?_)))⟩
  · exact sm_revalue (by omega) (by omega) (by omega) hI (fun _ le fs ff lo hi w rm p a1 a2 a3 a4 a5 a6 a7 a8 a9 a10 h => H le fs ff lo hi w rm p a1 a2 a3 a4 a5 a6 a7 a8 a9 a10 h)
  · rw [em]
    exact sm_setRoom (by omega) (by omega) hI (fun _ le fs ff lo hi w rm p a1 a2 a3 a4 a5 a6 a7 a8 a9 a10 h => H le fs ff lo hi w rm p a1 a2 a3 a4 a5 a6 a7 a8 a9 a10 h)
  · exact sm_take (by omega) hI (fun _ le fs ff lo hi w rm p a1 a2 a3 a4 a5 a6 a7 a8 a9 a10 h => H le fs ff lo hi w rm p a1 a2 a3 a4 a5 a6 a7 a8 a9 a10 h)
  · exact sm_bring hy hxy (by omega) (by omega) hI (fun _ le fs ff lo hi w rm p a1 a2 a3 a4 a5 a6 a7 a8 a9 a10 h => H le fs ff lo hi w rm p a1 a2 a3 a4 a5 a6 a7 a8 a9 a10 h)
theorem sm_turn {post : St1 → Prop} {x1 x2 x3 : Int32} (hI : sm_I cap lo hi w rm p a1 a2 a3 a4 a5 a6 a7)
    (H : ∀ le fs ff lo hi w rm p a1 a2 a3 a4 a5 a6 a7 a8 a9 a10, sm_I cap lo hi w rm p a1 a2 a3 a4 a5 a6 a7 → post (nI cap, le, fs, ff, 0, a1, a2, a3, a4, a5, a6, a7, a8, a9, a10, a11, a12, a13, a14, a15)) : wpL_turn post (nI cap, le, fs, ff, 0, a1, a2, a3, a4, a5, a6, a7, a8, a9, a10, a11, a12, a13, a14, a15) x1 x2 x3 := by
  obtain ⟨j, hj, ej⟩ := pk_andE x2 (m := 65535) 16 (by decide)
  obtain ⟨m, hm, em⟩ := pk_andE x3 (m := 3) 2 (by decide)
  have er : (nI j - nI j / 12 * 12 : Int32) = nI (j % 12) := pk_rem (d := 12) (by omega) (by omega) (by omega)
  have hr : j % 12 < 12 := Nat.mod_lt _ (by omega)
  exact ⟨by decide, nm_r (e' := nI (j % 12)) (by rw [ej, er]) (nm_r (e' := nI (j % 12 + m)) (by rw [em, nI_add]) (pk_le (j % 12 + m) 11 (fun z => sm_turn31 (by omega) (by omega) hI H) (fun z => sm_turn31 (y := 11) (by omega) (by omega) hI H)))⟩
theorem sm_set {post : Int32 → St1 → Prop} (hI : sm_I cap lo hi w rm p a1 a2 a3 a4 a5 a6 a7)
    (H : ∀ le fs ff a6 a7 a8 a9 a10 a11 a12, sm_I cap lo hi w rm p a1 a2 a3 a4 a5 a6 a7 → post 1 (nI cap, le, fs, ff, tk, a1, a2, a3, a4, a5, a6, a7, a8, a9, a10, a11, a12, a13, a14, a15)) : wpL_set post (nI cap, le, fs, ff, tk, a1, a2, a3, a4, a5, a6, a7, a8, a9, a10, a11, a12, a13, a14, a15) := by
  obtain ⟨hE, hS, hM, hu, hw, h3, hO⟩ := hI
  have hc := hE.1
  unfold wpL_set
  exact sm_chosen hc hS (sm_jobs hc (br_t (sm_sub hc hu) (sm_fits hE hS hM hu (fun le fs ff c6 c7 c8 c9 c10 c11 c12 hS' => br_f (by decide) (H le fs ff c6 c7 c8 c9 c10 c11 c12 ⟨hE, hS', hM, hu, hw, h3, hO⟩)))))
theorem sm_worth {post : Int32 → Prop} {i : Nat} (hi' : i < cap) (hE : sm_E cap lo hi w rm a2 a3 a4 a5) (hu : a1 i ≠ 0) (H : post (nI (w i))) : wpX_worth post (nI cap, le, fs, ff, tk, a1, a2, a3, a4, a5, a6, a7, a8, a9, a10, a11, a12, a13, a14, a15) (nI i) := by
  have hc := hE.1
  unfold wpX_worth
  refine sm_holds (show i < 8 by omega) hc (fun _ _ => br_f (by decide) ⟨pk_in i 8 (by omega), ?_⟩) (fun z => absurd ⟨hi', hu⟩ z)
  rw [sm_at (a := a4) (n := i) (hE.2.2.1 i (by omega)).2]
  exact H
theorem sm_pricesl {post : Int32 → St1 → Prop} {b1 : Nat → Int32} (H : ∀ le fs ff a1 a6 a7 a8 a9 a10 a11 a12, sm_I cap lo hi w rm p a1 a2 a3 a4 a5 a6 a7 → post 1 (nI cap, le, fs, ff, tk, a1, a2, a3, a4, a5, a6, a7, a8, a9, a10, a11, a12, a13, a14, a15)) :
    ∀ (f i : Nat) (le fs ff : Int32) (a1 a6 a7 a8 a9 a10 a11 a12 : Nat → Int32), i ≤ 7 → 7 < f + i → (∀ j, (a1 j ≠ 0 ↔ b1 j ≠ 0)) → sm_I cap lo hi w rm p a1 a2 a3 a4 a5 a6 a7 →
      wL_prices_12 post (nI (sm_mk (fun i => p i < 12) cap)) (nI (sm_mk (fun i => b1 i ≠ 0) cap)) f (nI i) (nI cap) le fs ff tk a1 a2 a3 a4 a5 a6 a7 a8 a9 a10 a11 a12 a13 a14 a15 := by
  intro f
  induction f with
  | zero => intro i le fs ff a1 a6 a7 a8 a9 a10 a11 a12 h1 h2; omega
  | succ f ih =>
    intro i le fs ff a1 a6 a7 a8 a9 a10 a11 a12 h1 h2 hb hI
    obtain ⟨hE, hS, hM, hu, hw, h3, hO⟩ := id hI
    have hc := hE.1
    refine pk_le 7 i (fun _ => H _ _ _ _ _ _ _ _ _ _ _ hI) (fun z => sm_bit1 hc z (fun g => ?_) (fun g => nm_r (nI_1 i) (ih (i + 1) le fs ff a1 a6 a7 a8 a9 a10 a11 a12 (by omega) (by omega) hb hI)))
    have hui : a1 i ≠ 0 := (hb i).mpr g.2
    have hw20 := (hE.2.2.1 i (by omega)).1
    refine sm_worth g.1 hE hui (sm_price g.1 hE hS hM hui (hw i g.1 hui) hO (fun x hx hxw le fs ff c1 c6 c7 c8 c9 c10 c11 c12 hc1 hS' => ?_))
    have hI' : sm_I cap lo hi w rm p c1 a2 a3 a4 a5 c6 c7 := ⟨hE, hS', hM, fun i q1 q2 => (hc1 i).mpr (hu i q1 q2), fun i q1 q2 => hw i q1 ((hc1 i).mp q2), h3, fun j q1 q2 q3 => hO j q1 ⟨q2.1, (hc1 j).mp q2.2⟩ q3⟩
    have nx := ih (i + 1) le fs ff c1 c6 c7 c8 c9 c10 c11 c12 (by omega) (by omega) (fun j => (hc1 j).trans (hb j)) hI'
    refine sm_bit1 hc z (fun q => pk_lt (w i) x (fun y => ?_) (fun y => br_t rfl (nm_r (nI_1 i) nx))) (fun q => pk_lt (w i) x (fun y => br_t rfl (nm_r (nI_1 i) nx)) (fun y => ?_))
    · have := hxw.mpr q.2
      omega
    · exact absurd ⟨g.1, hxw.mp y⟩ q
theorem sm_prices {post : Int32 → St1 → Prop} (hI : sm_I cap lo hi w rm p a1 a2 a3 a4 a5 a6 a7)
    (H : ∀ le fs ff a1 a6 a7 a8 a9 a10 a11 a12, sm_I cap lo hi w rm p a1 a2 a3 a4 a5 a6 a7 → post 1 (nI cap, le, fs, ff, tk, a1, a2, a3, a4, a5, a6, a7, a8, a9, a10, a11, a12, a13, a14, a15)) : wpL_prices post (nI cap, le, fs, ff, tk, a1, a2, a3, a4, a5, a6, a7, a8, a9, a10, a11, a12, a13, a14, a15) := by
  unfold wpL_prices
  exact sm_chosen hI.1.1 hI.2.1 (sm_jobs hI.1.1 ⟨8, sm_pricesl H 8 0 le fs ff a1 a6 a7 a8 a9 a10 a11 a12 (by omega) (by omega) (fun _ => Iff.rfl) hI⟩)
theorem sm_room {post : Int32 → Prop} {s : Nat} (hs : s < 12) (hE : sm_E cap lo hi w rm a2 a3 a4 a5) (H : post (nI (rm s))) : wpX_room post (nI cap, le, fs, ff, tk, a1, a2, a3, a4, a5, a6, a7, a8, a9, a10, a11, a12, a13, a14, a15) (nI s) := by
  refine br_f (nI_pos (by omega)) (pk_le s 11 (fun _ => ⟨pk_in s 12 hs, ?_⟩) (fun z => absurd z (by omega)))
  rw [sm_at (a := a5) (n := s) (hE.2.2.2 s hs).2]
  exact H
/-- the count of slots' inner loop: before the table is made nothing has been seen -/
def sm_cn (p rm : Nat → Nat) (tk : Int32) (a15 : Nat → Int32) (s i n : Nat) : Prop :=
  (tk = 0 ∧ n = 0 ∧ ∀ j, j < i → 12 ≤ p j) ∨ (tk = 1 ∧ ∃ q, sm_Tb p rm q a15 ∧ n = sm_s (fun j => sm_i (q j = s)) i)
theorem sm_sl18 {post : Int32 → St1 → Prop} {J : Int32 → Int32 → Int32 → Int32 → Int32 → Int32 → (Nat → Int32) → (Nat → Int32) → (Nat → Int32) → (Nat → Int32) → (Nat → Int32) → (Nat → Int32) → (Nat → Int32) → (Nat → Int32) → (Nat → Int32) → (Nat → Int32) → (Nat → Int32) → (Nat → Int32) → (Nat → Int32) → (Nat → Int32) → (Nat → Int32) → Prop} {s : Nat} (hs : s < 12)
    (HJ : ∀ le fs ff tk a2 a3 a5 a6 a7 a8 a9 a10 a11 a12 a13 a14 a15, sm_I cap lo hi w rm p a1 a2 a3 a4 a5 a6 a7 → (tk = 0 ∨ (tk = 1 ∧ ∃ q, sm_Tb p rm q a15)) → J (nI (s + 1)) (nI cap) le fs ff tk a1 a2 a3 a4 a5 a6 a7 a8 a9 a10 a11 a12 a13 a14 a15) :
    ∀ (f i n : Nat) (le fs ff tk : Int32) (a2 a3 a6 a7 a8 a9 a10 a11 a12 a13 a14 a15 : Nat → Int32), i ≤ 7 → 7 < f + i → sm_I cap lo hi w rm p a1 a2 a3 a4 a5 a6 a7 → sm_cn p rm tk a15 s i n →
      wL_slots_18 post J (nI (sm_mk (fun i => p i < 12) cap)) (nI s) f (nI n) (nI i) (nI cap) le fs ff tk a1 a2 a3 a4 a5 a6 a7 a8 a9 a10 a11 a12 a13 a14 a15 := by
  intro f
  induction f with
  | zero => intro i n le fs ff tk a2 a3 a6 a7 a8 a9 a10 a11 a12 a13 a14 a15 h1 h2; omega
  | succ f ih =>
    intro i n le fs ff tk a2 a3 a6 a7 a8 a9 a10 a11 a12 a13 a14 a15 h1 h2 hI hn
    obtain ⟨hE, hS, hM, hu, hw, h3, hO⟩ := id hI
    have hc := hE.1
    have hr3 := h3 s hs
    have hIs : ∀ {c2 c3 c5 c6 c7}, sm_E cap lo hi w rm c2 c3 a4 c5 → sm_S cap p c6 c7 → sm_I cap lo hi w rm p a1 c2 c3 a4 c5 c6 c7 := fun x y => ⟨x, y, hM, hu, hw, h3, hO⟩
    refine pk_le 7 i (fun z => ?_) (fun z => ?_)
    · have hnr : n ≤ rm s := by
        rcases hn with ⟨_, e, _⟩ | ⟨_, q, hq, e⟩
        · omega
        · have h1 := hq.2.2 s hs
          have h2 : sm_ld q s = sm_s (fun j => sm_i (q j = s)) 7 + sm_i (q 7 = s) := rfl
          rw [show i = 7 by omega] at e
          omega
      have hT : tk = 0 ∨ (tk = 1 ∧ ∃ q, sm_Tb p rm q a15) := by
        rcases hn with ⟨e, _⟩ | ⟨e, q, hq, _⟩
        · exact Or.inl e
        · exact Or.inr ⟨e, q, hq⟩
      refine sm_room hs hE (pk_lt (rm s) n (fun q => absurd q (by omega)) (fun _ => sm_gain hs hE hr3 hS hM (fun x le fs ff c5 c6 c7 c8 c9 c10 c11 c12 hx hE1 hS1 => br_f (nI_pos (by omega)) (pk_le (rm s) 0 (fun _ => nm_r (nI_1 s) (HJ _ _ _ _ _ _ _ _ _ _ _ _ _ _ _ _ _ (hIs hE1 hS1) hT)) (fun q => sm_loss hs hE1 q hS1 hM (fun x le fs ff d5 d6 d7 d8 d9 d10 d11 d12 hx hE2 hS2 => br_t (nI_pos' (by omega)) (nm_r (nI_1 s) (HJ _ _ _ _ _ _ _ _ _ _ _ _ _ _ _ _ _ (hIs hE2 hS2) hT))))))))
    · have e8 : i < 8 := by omega
      have next : ∀ (n' : Nat) {le fs ff tk c2 c3 c6 c7 c8 c9 c10 c11 c12 c13 c14 c15}, sm_E cap lo hi w rm c2 c3 a4 a5 → sm_S cap p c6 c7 → sm_cn p rm tk c15 s (i + 1) n' → wL_slots_18 post J (nI (sm_mk (fun i => p i < 12) cap)) (nI s) f (nI n') (nI (i + 1)) (nI cap) le fs ff tk a1 c2 c3 a4 a5 c6 c7 c8 c9 c10 c11 c12 c13 c14 c15 := fun n' _ _ _ _ _ _ _ _ _ _ _ _ _ _ _ _ x y cn => ih (i + 1) n' _ _ _ _ _ _ _ _ _ _ _ _ _ _ _ _ (by omega) (by omega) (hIs x y) cn
      refine sm_slotOf e8 hE hS hM hu (fun g => ?_) (fun q g ht hq => ?_) (fun ht => ?_) (fun g ht le fs ff c2 c3 c6 c7 c8 c9 c10 c11 c12 c13 c14 c15 q hE1 hS1 hq => ?_)
      · refine sm_bit1 hc z (fun q => absurd q.2 (by omega)) (fun _ => nm_r (sm_add0 n) (nm_r (nI_1 i) (next n hE hS ?_)))
        rcases hn with ⟨e1, e2, e3⟩ | ⟨e1, q, hq, e2⟩
        · exact Or.inl ⟨e1, e2, lt_s e3 g⟩
        · refine Or.inr ⟨e1, q, hq, ?_⟩
          show n = sm_s (fun j => sm_i (q j = s)) i + sm_i (q i = s)
          rw [sm_i0 (P := q i = s) (fun e => by have := (hq.1 i e8).mp (by omega); omega)]
          exact e2
      · have hcn : ∀ n', n' = n + sm_i (q i = s) → sm_cn p rm tk a15 s (i + 1) n' := fun n' en => by
          rcases hn with ⟨e1, _⟩ | ⟨e1, q', hq', e2⟩
          · exact absurd e1 ht
          · refine Or.inr ⟨e1, q', hq', ?_⟩
            show n' = sm_s (fun j => sm_i (q' j = s)) i + sm_i (q' i = s)
            have eq : q' i = q i := by
              have x1 := hq'.2.1 i e8 g
              have x2 := hq.2.1 i e8 g
              have b1 := (hq'.1 i e8).mpr g
              have b2 := (hq.1 i e8).mpr g
              exact (nI_eq (by omega) (by omega)).mp (x1.symm.trans x2)
            rw [eq, ← e2]; exact en
        have hqi := (hq.1 i e8).mpr g
        refine sm_bit1 hc z (fun _ => pk_eq (q i) s (fun e => nm_r (nI_1 n) (nm_r (nI_1 i) (next (n + 1) hE hS (hcn _ (by rw [sm_i1 e]))))) (fun e => nm_r (sm_add0 n) (nm_r (nI_1 i) (next n hE hS (hcn _ (by rw [sm_i0 e]; rfl)))))) (fun y => absurd ⟨(hS.1 i e8).2 g, g⟩ y)
      · rcases hn with ⟨e1, _⟩ | ⟨e1, q', hq', e2⟩
        · exact absurd e1 ht
        · exact ⟨q', hq'⟩
      · have hcn : ∀ n', n' = n + sm_i (q i = s) → sm_cn p rm 1 c15 s (i + 1) n' := fun n' en => by
          rcases hn with ⟨e1, e2, e3⟩ | ⟨e1, _⟩
          · refine Or.inr ⟨rfl, q, hq, ?_⟩
            show n' = sm_s (fun j => sm_i (q j = s)) i + sm_i (q i = s)
            have : sm_s (fun j => sm_i (q j = s)) i = 0 := sm_s0 i (fun j hj => sm_i0 (fun e => by
              have x1 := (hq.1 j (by omega)).mp (by omega)
              have x2 := e3 j hj
              omega))
            omega
          · rw [ht] at e1
            exact absurd e1 (by decide)
        have hqi := (hq.1 i e8).mpr g
        refine sm_bit1 hc z (fun _ => pk_eq (q i) s (fun e => nm_r (nI_1 n) (nm_r (nI_1 i) (next (n + 1) hE1 hS1 (hcn _ (by rw [sm_i1 e]))))) (fun e => nm_r (sm_add0 n) (nm_r (nI_1 i) (next n hE1 hS1 (hcn _ (by rw [sm_i0 e]; rfl)))))) (fun y => absurd ⟨(hS.1 i e8).2 g, g⟩ y)
theorem sm_sl7 {post : Int32 → St1 → Prop} (H : ∀ u, post 1 u) :
    ∀ (f s : Nat) (le fs ff tk : Int32) (a2 a3 a5 a6 a7 a8 a9 a10 a11 a12 a13 a14 a15 : Nat → Int32), s ≤ 12 → 12 < f + s → sm_I cap lo hi w rm p a1 a2 a3 a4 a5 a6 a7 → (tk = 0 ∨ (tk = 1 ∧ ∃ q, sm_Tb p rm q a15)) →
      wL_slots_7 post (nI (sm_mk (fun i => p i < 12) cap)) f (nI s) (nI cap) le fs ff tk a1 a2 a3 a4 a5 a6 a7 a8 a9 a10 a11 a12 a13 a14 a15 := by
  intro f
  induction f with
  | zero => intro s le fs ff tk a2 a3 a5 a6 a7 a8 a9 a10 a11 a12 a13 a14 a15 h1 h2; omega
  | succ f ih =>
    intro s le fs ff tk a2 a3 a5 a6 a7 a8 a9 a10 a11 a12 a13 a14 a15 h1 h2 hI hT
    refine pk_le 12 s (fun _ => H _) (fun z => ⟨8, sm_sl18 z (fun le fs ff tk c2 c3 c5 c6 c7 c8 c9 c10 c11 c12 c13 c14 c15 hI' hT' => ih (s + 1) le fs ff tk c2 c3 c5 c6 c7 c8 c9 c10 c11 c12 c13 c14 c15 (by omega) (by omega) hI' hT') 8 0 0 le fs ff tk a2 a3 a6 a7 a8 a9 a10 a11 a12 a13 a14 a15 (by omega) (by omega) hI ?_⟩)
    rcases hT with e | ⟨e, q, hq⟩
    · exact Or.inl ⟨e, rfl, fun j hj => absurd hj (by omega)⟩
    · exact Or.inr ⟨e, q, hq, rfl⟩
theorem sm_slots {post : Int32 → St1 → Prop} (hI : sm_I cap lo hi w rm p a1 a2 a3 a4 a5 a6 a7) (H : ∀ u, post 1 u) : wpL_slots post (nI cap, le, fs, ff, 0, a1, a2, a3, a4, a5, a6, a7, a8, a9, a10, a11, a12, a13, a14, a15) := by
  unfold wpL_slots
  exact sm_chosen hI.1.1 hI.2.1 ⟨13, sm_sl7 H 13 0 le fs ff 0 a2 a3 a5 a6 a7 a8 a9 a10 a11 a12 a13 a14 a15 (by omega) (by omega) hI (Or.inl rfl)⟩
theorem sm_law47 {post : Int32 → Prop} {L kc ks : Nat} {xs : Nat → Int32} (hL : L ≤ 260) (H : post 1) :
    ∀ (f k : Nat) (le fs ff : Int32) (lo hi w rm p : Nat → Nat) (a1 a2 a3 a4 a5 a6 a7 a8 a9 a10 a11 a12 a13 a14 a15 : Nat → Int32), k ≤ L + 10 → L + 10 < f + k → sm_I cap lo hi w rm p a1 a2 a3 a4 a5 a6 a7 →
      wL_law_47 post L xs kc ks f (nI k) (nI cap) le fs ff 0 a1 a2 a3 a4 a5 a6 a7 a8 a9 a10 a11 a12 a13 a14 a15 := by
  intro f
  induction f with
  | zero => intro k le fs ff lo hi w rm p a1 a2 a3 a4 a5 a6 a7 a8 a9 a10 a11 a12 a13 a14 a15 h1 h2; omega
  | succ f ih =>
    intro k le fs ff lo hi w rm p a1 a2 a3 a4 a5 a6 a7 a8 a9 a10 a11 a12 a13 a14 a15 h1 h2 hI
    refine pk_le L (k + 2) (fun _ => sm_slots hI (fun u => H)) (fun z => ⟨pk_in k L (by omega), pk_in (k + 1) L (by omega) (nI_1 k), pk_in (k + 2) L (by omega) (nI_add k 2), ?_⟩) rfl (nI_add k 2)
    exact sm_turn hI (fun le fs ff lo hi w rm p a1 a2 a3 a4 a5 a6 a7 a8 a9 a10 hI1 => sm_set hI1 (fun le fs ff c6 c7 c8 c9 c10 c11 c12 hI2 => br_f (by decide) (sm_prices hI2 (fun le fs ff d1 d6 d7 d8 d9 d10 d11 d12 hI3 => br_f (by decide) (nm_r (nI_add k 3) (ih (k + 3) le fs ff lo hi w rm p d1 a2 a3 a4 a5 d6 d7 d8 d9 d10 d11 d12 _ _ _ (by omega) (by omega) hI3))))))
end
end
section
theorem sm_I0 {cap r : Nat} {a5 a6 : Nat → Int32} (hc : cap ≤ 7) (hr : r ≤ 1) (h5 : ∀ j, j < 12 → a5 j = nI r) (h6 : ∀ j, j < 8 → a6 j = -1) :
    sm_I cap (fun _ => 0) (fun _ => 0) (fun _ => 0) (fun _ => r) (fun _ => 12) (fun _ => 0) (fun _ => 0) (fun _ => 0) (fun _ => 0) a5 a6 (fun _ => 0) := by
  refine ⟨⟨hc, fun i _ => ⟨by show 0 < 12; omega, by show 0 < 12; omega, rfl, rfl⟩, fun i _ => ⟨by show 0 ≤ 20; omega, rfl⟩, fun s hs => ⟨by show r ≤ 4; omega, h5 s hs⟩⟩, ⟨fun i hi => ⟨h6 i hi, fun z : 12 < 12 => absurd z (by omega)⟩, fun s hs => by rw [sm_ld12 hs]; rfl⟩, ⟨fun i _ z => absurd (show 12 < 12 from z) (by omega), fun s hs => by rw [sm_ld12 hs]; exact Nat.zero_le _⟩, fun i _ z => absurd (show 12 < 12 from z) (by omega), fun i _ z => absurd rfl z, fun s _ => by show r ≤ 3; omega, fun j _ z => absurd rfl z.2⟩
theorem sm_init {post : St1 → Prop} {cap r mc ms : Nat} (h1 : 1 ≤ cap) (hc : cap ≤ 7) (hr : r ≤ 1) (hmc : 15 ≤ mc) (hms : 132 ≤ ms)
    (H : ∀ a5 a6, (∀ j, j < 12 → a5 j = nI r) → (∀ j, j < 8 → a6 j = -1) → post (nI cap, 0, 0, 0, 0, fun _ => 0, fun _ => 0, fun _ => 0, fun _ => 0, a5, a6, fun _ => 0, fun _ => 0, fun _ => 0, fun _ => 0, fun _ => 0, fun _ => 0, fun _ => 0, fun _ => 0, fun _ => 0)) :
    wpX_init post mc ms (0, 0, 0, 0, 0) (nI cap) (nI r) := by
  have loop : wX_init_146 post mc ms (nI r) (nI cap) 15 132 0 0 0 0 0 (fun _ => 0) (fun _ => 0) (fun _ => 0) (fun _ => 0) (fun _ => 0) (fun _ => 0) (fun _ => 0) (fun _ => 0) (fun _ => 0) (fun _ => 0) (fun _ => 0) (fun _ => 0) (fun _ => 0) (fun _ => 0) (fun _ => 0) := by
    refine br_t (nI_pos' (by omega)) (pk_le r 3 (fun _ => ?_) (fun z => absurd z (by omega)))
    refine pk_loop (fun n i b5 => wX_init_171 post mc ms (nI r) 15 132 (nI cap) 0 0 0 0 n (nI i) (fun _ => 0) (fun _ => 0) (fun _ => 0) (fun _ => 0) b5 (fun _ => 0) (fun _ => 0) (fun _ => 0) (fun _ => 0) (fun _ => 0) (fun _ => 0) (fun _ => 0) (fun _ => 0) (fun _ => 0) (fun _ => 0)) (fun i b5 => ∀ j, j < i → b5 j = nI r) 12 0 (fun _ => 0) (by omega) (fun j hj => absurd hj (by omega)) ?_ ?_
    · intro n b5 h5
      refine pk_le 12 12 (fun _ => ?_) (fun z => absurd z (by omega))
      refine pk_loop (fun n i b6 => wX_init_196 post mc ms 15 132 (nI cap) 0 0 0 0 n (nI i) (fun _ => 0) (fun _ => 0) (fun _ => 0) (fun _ => 0) b5 b6 (fun _ => 0) (fun _ => 0) (fun _ => 0) (fun _ => 0) (fun _ => 0) (fun _ => 0) (fun _ => 0) (fun _ => 0) (fun _ => 0)) (fun i b6 => ∀ j, j < i → b6 j = -1) 8 0 (fun _ => 0) (by omega) (fun j hj => absurd hj (by omega)) ?_ ?_
      · intro n b6 h6
        exact pk_le 8 8 (fun _ => H b5 b6 h5 h6) (fun z => absurd z (by omega))
      · intro n i b6 hi h6 hw
        refine pk_le 8 i (fun z => absurd z (by omega)) (fun _ => ⟨pk_in i 8 hi, nm_r (by rw [nI_clamp (by omega)]) (nm_r (nI_1 i) (hw (upd b6 i (-1)) (lt_s (fun j hj => ?_) pk_us)))⟩)
        rw [pk_un (by omega)]; exact h6 j hj
    · intro n i b5 hi h5 hw
      refine pk_le 12 i (fun z => absurd z (by omega)) (fun _ => ⟨pk_in i 12 hi, nm_r (by rw [nI_clamp (by omega), sm_b8 r (by omega)]) (nm_r (nI_1 i) (hw (upd b5 i (nI r)) (lt_s (fun j hj => ?_) pk_us)))⟩)
      rw [pk_un (by omega)]; exact h5 j hj
  exact ⟨by omega, by omega, by omega, by omega, by omega, by omega, by omega, by omega, by omega, by omega, by omega, by omega, by omega, by omega, by omega, by omega, by omega, by omega, by omega, by omega, by omega, by omega, by omega, by omega, by omega, by omega, by omega, by omega, by omega, by omega, pk_le 1 cap (fun _ => pk_le cap 7 (fun _ => loop) (fun z => absurd z (by omega))) (fun z => absurd z (by omega))⟩
theorem sm_law33 {post : Int32 → Prop} {L cap r : Nat} {xs : Nat → Int32} (hL : L ≤ 260) (H : post 1) (h1 : 1 ≤ cap) (hc : cap ≤ 7) (hr : r ≤ 1) : wL_law_33 post L xs (nI cap) (nI r) 0 0 :=
  ⟨by omega, by omega, 15, 132, by omega, by omega, sm_init h1 hc hr (Nat.le_refl _) (Nat.le_refl _) (fun a5 a6 h5 h6 => ⟨L + 20, sm_law47 hL H (L + 20) 2 _ _ _ _ _ _ _ _ _ _ _ _ _ _ _ _ _ _ _ _ _ _ _ (by omega) (by omega) (sm_I0 hc hr h5 h6)⟩)⟩
theorem sm_law17 {post : Int32 → Prop} {L cap : Nat} {xs : Nat → Int32} (hL : L ≤ 260) (H : post 1) (h1 : 1 ≤ cap) (hc : cap ≤ 7) : wL_law_17 post L xs (nI cap) 0 0 := by
  refine pk_le L 1 (fun _ => sm_law33 hL H h1 hc (r := 0) (by omega)) (fun z => ⟨pk_in 1 L z, ?_⟩)
  obtain ⟨j, hj, ej⟩ := pk_andE (xs (1 : Int32).toNatClampNeg) (m := 1) 1 (by decide)
  rw [ej]
  exact sm_law33 hL H h1 hc (by omega)
theorem i_vc (xs : Nat → Int32) (L : Nat) (hL : L ≤ 260) : wpL_law (fun r => r = 1) L xs := by
  refine pk_le L 0 (fun _ => sm_law17 (cap := 7) hL rfl (by omega) (by omega)) (fun z => ⟨pk_in 0 L z, ?_⟩)
  obtain ⟨j, hj, ej⟩ := pk_andE (xs (0 : Int32).toNatClampNeg) (m := 3) 2 (by decide)
  have e : (4 + nI j : Int32) = nI (4 + j) := nI_add 4 j
  rw [ej, e]
  exact sm_law17 hL rfl (by omega) (by omega)
end
