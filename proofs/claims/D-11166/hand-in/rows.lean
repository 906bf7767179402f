section
/-- walks of n steps along R -/
def gq_wk (R : Nat → Nat → Prop) : Nat → Nat → Nat → Prop
  | 0, a, b => a = b
  | n + 1, a, b => ∃ c, R a c ∧ gq_wk R n c b
theorem gq_add {R : Nat → Nat → Prop} : ∀ {n a b m c}, gq_wk R n a b → gq_wk R m b c → gq_wk R (n + m) a c := by
  intro n
  induction n with
  | zero =>
    intro a b m c h1 h2
    have h1' : a = b := h1
    rw [Nat.zero_add, h1']
    exact h2
  | succ n ih =>
    intro a b m c h1 h2
    obtain ⟨d, h3, h4⟩ := h1
    rw [show n + 1 + m = (n + m) + 1 by omega]
    exact ⟨d, h3, ih h4 h2⟩
theorem gq_one {R : Nat → Nat → Prop} {a b : Nat} (h : R a b) : gq_wk R 1 a b := ⟨b, h, rfl⟩
theorem gq_snoc {R : Nat → Nat → Prop} {n a b c : Nat} (h : gq_wk R n a b) (h2 : R b c) : gq_wk R (n + 1) a c := gq_add h (gq_one h2)
theorem gq_split {R : Nat → Nat → Prop} : ∀ {n m a c}, gq_wk R (n + m) a c → ∃ b, gq_wk R n a b ∧ gq_wk R m b c := by
  intro n
  induction n with
  | zero =>
    intro m a c h
    rw [Nat.zero_add] at h
    exact ⟨a, rfl, h⟩
  | succ n ih =>
    intro m a c h
    rw [show n + 1 + m = (n + m) + 1 by omega] at h
    obtain ⟨d, h3, h4⟩ := h
    obtain ⟨b, h5, h6⟩ := ih h4
    exact ⟨b, ⟨d, h3, h5⟩, h6⟩
theorem gq_mono {R R' : Nat → Nat → Prop} (h : ∀ a b, R a b → R' a b) : ∀ {n a b}, gq_wk R n a b → gq_wk R' n a b := by
  intro n
  induction n with
  | zero =>
    intro a b h1
    exact h1
  | succ n ih =>
    intro a b h1
    obtain ⟨d, h3, h4⟩ := h1
    exact ⟨d, h a d h3, ih h4⟩
theorem gq_seq {R : Nat → Nat → Prop} : ∀ {n a b}, gq_wk R n a b → ∃ v : Nat → Nat, v 0 = a ∧ v n = b ∧ ∀ i, i < n → R (v i) (v (i + 1)) := by
  intro n
  induction n with
  | zero =>
    intro a b h
    exact ⟨fun _ => a, rfl, h, fun i hi => absurd hi (by omega)⟩
  | succ n ih =>
    intro a b h
    obtain ⟨d, h3, h4⟩ := h
    obtain ⟨v, v0, vn, vs⟩ := ih h4
    refine ⟨fun i => match i with | 0 => a | j + 1 => v j, rfl, vn, fun i hi => ?_⟩
    cases i with
    | zero =>
      show R a (v 0)
      rw [v0]
      exact h3
    | succ i => exact vs i (by omega)
theorem gq_of {R : Nat → Nat → Prop} {n : Nat} {v : Nat → Nat} (h : ∀ i, i < n → R (v i) (v (i + 1))) : ∀ j i, i + j ≤ n → gq_wk R j (v i) (v (i + j)) := by
  intro j
  induction j with
  | zero =>
    intro i _
    exact rfl
  | succ j ih =>
    intro i hi
    refine ⟨v (i + 1), h i (by omega), ?_⟩
    rw [show i + (j + 1) = (i + 1) + j by omega]
    exact ih (i + 1) (by omega)
theorem gq_pig : ∀ (n m : Nat) (f : Nat → Nat), (∀ i, i < m → f i < n) → (∀ i j, i < m → j < m → f i = f j → i = j) → m ≤ n := by
  intro n
  induction n with
  | zero =>
    intro m f h1 _
    cases m with
    | zero => omega
    | succ m => exact absurd (h1 0 (by omega)) (by omega)
  | succ n ih =>
    intro m f h1 h2
    cases m with
    | zero => omega
    | succ m =>
      have key : m ≤ n := by
        refine ih m (fun i => if f i = n then f m else f i) (fun i hi => ?_) (fun i j hi hj e => ?_)
        · have hm := h1 m (by omega)
          have hi' := h1 i (by omega)
          show (if f i = n then f m else f i) < n
          by_cases c : f i = n
          · rw [if_pos c]
            have : f m ≠ n := fun z => absurd (h2 i m (by omega) (by omega) (by rw [c, z])) (by omega)
            omega
          · rw [if_neg c]
            omega
        · have e' : (if f i = n then f m else f i) = (if f j = n then f m else f j) := e
          by_cases c : f i = n
          · by_cases d : f j = n
            · exact h2 i j (by omega) (by omega) (by rw [c, d])
            · rw [if_pos c, if_neg d] at e'
              exact absurd (h2 m j (by omega) (by omega) e') (by omega)
          · by_cases d : f j = n
            · rw [if_neg c, if_pos d] at e'
              exact absurd (h2 i m (by omega) (by omega) e') (by omega)
            · rw [if_neg c, if_neg d] at e'
              exact h2 i j (by omega) (by omega) e'
      omega
/-- a shortest walk into G has different places -/
theorem gq_short {R : Nat → Nat → Prop} {G : Nat → Prop} {n a : Nat} (h : ∃ b, G b ∧ gq_wk R n a b) (hm : ∀ m, m < n → ¬ ∃ b, G b ∧ gq_wk R m a b) :
    ∃ v : Nat → Nat, v 0 = a ∧ G (v n) ∧ (∀ i, i < n → R (v i) (v (i + 1))) ∧ (∀ i j, i ≤ n → j ≤ n → v i = v j → i = j) := by
  obtain ⟨b, hb, hw⟩ := h
  obtain ⟨v, v0, vn, vs⟩ := gq_seq hw
  have key : ∀ i j, i < j → j ≤ n → v i = v j → False := by
    intro i j hij hj e
    have w1 := gq_of vs i 0 (by omega)
    have w2 := gq_of vs (n - j) j (by omega)
    rw [Nat.zero_add, v0] at w1
    rw [show j + (n - j) = n by omega, vn, ← e] at w2
    exact hm (i + (n - j)) (by omega) ⟨b, hb, gq_add w1 w2⟩
  refine ⟨v, v0, by rw [vn]; exact hb, vs, fun i j hi hj e => ?_⟩
  rcases Nat.lt_trichotomy i j with c | c | c
  · exact (key i j c hj e).elim
  · exact c
  · exact (key j i c hi e.symm).elim
/-- the least of what holds somewhere -/
theorem gq_least (P : Nat → Prop) (h : ∃ k, P k) : ∃ k, P k ∧ ∀ j, j < k → ¬ P j := pk_least P h
/-- a walk among places below N that stay below N: the shortest has less than N steps -/
theorem gq_lt {R : Nat → Nat → Prop} {N a b n : Nat} (ha : a < N) (hR : ∀ x y, x < N → R x y → y < N) (h : gq_wk R n a b) : ∃ m, m < N ∧ m ≤ n ∧ gq_wk R m a b ∧ ∀ j, j < m → ¬ gq_wk R j a b := by
  obtain ⟨m, h1, h2⟩ := gq_least (fun m => gq_wk R m a b) ⟨n, h⟩
  have hmn : m ≤ n := by
    rcases Nat.lt_or_ge n m with c | c
    · exact absurd h (h2 n c)
    · exact c
  obtain ⟨v, v0, _, vs, vi⟩ := gq_short (R := R) (G := fun x => x = b) (n := m) (a := a) ⟨b, rfl, h1⟩ (fun j hj z => by obtain ⟨x, hx, hw⟩ := z; rw [hx] at hw; exact h2 j hj hw)
  have hv : ∀ i, i ≤ m → v i < N := by
    intro i
    induction i with
    | zero =>
      intro _
      rw [v0]
      exact ha
    | succ i ih =>
      intro hi
      exact hR _ _ (ih (by omega)) (vs i (by omega))
  have := gq_pig N (m + 1) v (fun i hi => hv i (by omega)) (fun i j hi hj e => vi i j (by omega) (by omega) e)
  exact ⟨m, by omega, hmn, h1, h2⟩
/-- lazy walks: steps or stays -/
theorem gq_lazy {R : Nat → Nat → Prop} : ∀ {n a b}, gq_wk (fun x y => y = x ∨ R x y) n a b → ∃ m, m ≤ n ∧ gq_wk R m a b := by
  intro n
  induction n with
  | zero =>
    intro a b h
    exact ⟨0, by omega, h⟩
  | succ n ih =>
    intro a b h
    obtain ⟨d, h3, h4⟩ := h
    obtain ⟨m, hm, hw⟩ := ih h4
    rcases h3 with c | c
    · rw [c] at hw
      exact ⟨m, by omega, hw⟩
    · exact ⟨m + 1, by omega, ⟨d, c, hw⟩⟩
theorem gq_stay {R : Nat → Nat → Prop} (a : Nat) : ∀ n, gq_wk (fun x y => y = x ∨ R x y) n a a := by
  intro n
  induction n with
  | zero => exact rfl
  | succ n ih => exact ⟨a, Or.inl rfl, ih⟩
theorem gq_tolazy {R : Nat → Nat → Prop} {n a b : Nat} (h : gq_wk R n a b) {m : Nat} (hm : n ≤ m) : gq_wk (fun x y => y = x ∨ R x y) m a b := by
  have h2 : gq_wk (fun x y => y = x ∨ R x y) n a b := gq_mono (fun _ _ z => Or.inr z) h
  have := gq_add h2 (gq_stay (R := R) b (m - n))
  rw [show n + (m - n) = m by omega] at this
  exact this
/-- how many of the first n places have p -/
noncomputable def gq_cn (p : Nat → Prop) : Nat → Nat
  | 0 => 0
  | n + 1 => gq_cn p n + @ite Nat (p n) (Classical.propDecidable _) 1 0
theorem gq_cn_t {p : Nat → Prop} {n : Nat} (h : p n) : gq_cn p (n + 1) = gq_cn p n + 1 := by
  show gq_cn p n + @ite Nat (p n) (Classical.propDecidable _) 1 0 = _
  rw [if_pos h]
theorem gq_cn_f {p : Nat → Prop} {n : Nat} (h : ¬ p n) : gq_cn p (n + 1) = gq_cn p n := by
  show gq_cn p n + @ite Nat (p n) (Classical.propDecidable _) 1 0 = _
  rw [if_neg h, Nat.add_zero]
theorem gq_cn_le {p : Nat → Prop} : ∀ n, gq_cn p n ≤ n := by
  intro n
  induction n with
  | zero => exact Nat.le_refl 0
  | succ n ih =>
    by_cases c : p n
    · rw [gq_cn_t c]; omega
    · rw [gq_cn_f c]; omega
theorem gq_cn_mono {p q : Nat → Prop} : ∀ n, (∀ i, i < n → p i → q i) → gq_cn p n ≤ gq_cn q n := by
  intro n
  induction n with
  | zero => intro _; exact Nat.le_refl 0
  | succ n ih =>
    intro h
    have := ih (fun i hi => h i (by omega))
    by_cases c : p n
    · rw [gq_cn_t c, gq_cn_t (h n (by omega) c)]; omega
    · rw [gq_cn_f c]
      by_cases d : q n
      · rw [gq_cn_t d]; omega
      · rw [gq_cn_f d]; omega
theorem gq_cn_congr {p q : Nat → Prop} (n : Nat) (h : ∀ i, i < n → (p i ↔ q i)) : gq_cn p n = gq_cn q n :=
  Nat.le_antisymm (gq_cn_mono n (fun i hi => (h i hi).mp)) (gq_cn_mono n (fun i hi => (h i hi).mpr))
theorem gq_cn_split (p q : Nat → Prop) : ∀ n, gq_cn p n = gq_cn (fun i => p i ∧ q i) n + gq_cn (fun i => p i ∧ ¬ q i) n := by
  intro n
  induction n with
  | zero => rfl
  | succ n ih =>
    by_cases c : p n
    · by_cases d : q n
      · rw [gq_cn_t c, gq_cn_t (p := fun i => p i ∧ q i) ⟨c, d⟩, gq_cn_f (p := fun i => p i ∧ ¬ q i) (fun z => z.2 d)]; omega
      · rw [gq_cn_t c, gq_cn_f (p := fun i => p i ∧ q i) (fun z => d z.2), gq_cn_t (p := fun i => p i ∧ ¬ q i) ⟨c, d⟩]; omega
    · rw [gq_cn_f c, gq_cn_f (p := fun i => p i ∧ q i) (fun z => c z.1), gq_cn_f (p := fun i => p i ∧ ¬ q i) (fun z => c z.1)]; omega
theorem gq_cn_0 {p : Nat → Prop} : ∀ n, (∀ i, i < n → ¬ p i) → gq_cn p n = 0 := by
  intro n
  induction n with
  | zero => intro _; rfl
  | succ n ih =>
    intro h
    rw [gq_cn_f (h n (by omega))]
    exact ih (fun i hi => h i (by omega))
theorem gq_cn_all {p : Nat → Prop} : ∀ n, (∀ i, i < n → p i) → gq_cn p n = n := by
  intro n
  induction n with
  | zero => intro _; rfl
  | succ n ih =>
    intro h
    rw [gq_cn_t (h n (by omega)), ih (fun i hi => h i (by omega))]
theorem gq_cn_1 {k : Nat} : ∀ n, k < n → gq_cn (fun i => i = k) n = 1 := by
  intro n
  induction n with
  | zero => intro h; exact absurd h (by omega)
  | succ n ih =>
    intro h
    by_cases c : n = k
    · rw [gq_cn_t (p := fun i => i = k) c, gq_cn_0 n (fun i hi z => absurd z (by omega))]
    · rw [gq_cn_f (p := fun i => i = k) c]
      exact ih (by omega)
theorem gq_cn_ex {p : Nat → Prop} (n : Nat) (h : 0 < gq_cn p n) : ∃ i, i < n ∧ p i := by
  by_cases c : ∃ i, i < n ∧ p i
  · exact c
  · rw [gq_cn_0 n (fun i hi z => c ⟨i, hi, z⟩)] at h
    exact absurd h (by omega)
/-- taking one away -/
theorem gq_cn_sub {p : Nat → Prop} {k n : Nat} (hk : k < n) (hp : p k) : gq_cn p n = gq_cn (fun i => p i ∧ i ≠ k) n + 1 := by
  have h1 := gq_cn_split p (fun i => i = k) n
  have h2 : gq_cn (fun i => p i ∧ i = k) n = gq_cn (fun i => i = k) n := gq_cn_congr n (fun i _ => ⟨fun z => z.2, fun z => ⟨by rw [z]; exact hp, z⟩⟩)
  rw [gq_cn_1 n hk] at h2
  have h3 : gq_cn (fun i => p i ∧ ¬ i = k) n = gq_cn (fun i => p i ∧ i ≠ k) n := rfl
  omega
theorem gq_cn_lt {p q : Nat → Prop} {k n : Nat} (h : ∀ i, i < n → p i → q i) (hk : k < n) (hp : ¬ p k) (hq : q k) : gq_cn p n < gq_cn q n := by
  rw [gq_cn_sub hk hq]
  have := gq_cn_mono (p := p) (q := fun i => q i ∧ i ≠ k) n (fun i hi z => ⟨h i hi z, fun e => hp (e ▸ z)⟩)
  omega
theorem gq_cn_inj {p : Nat → Prop} : ∀ (m : Nat) {q : Nat → Prop} {n : Nat} (f : Nat → Nat), (∀ i, i < m → p i → f i < n ∧ q (f i)) → (∀ i j, i < m → j < m → p i → p j → f i = f j → i = j) → gq_cn p m ≤ gq_cn q n := by
  intro m
  induction m with
  | zero => intro q n f _ _; exact Nat.zero_le _
  | succ m ih =>
    intro q n f h1 h2
    by_cases c : p m
    · rw [gq_cn_t c, gq_cn_sub (h1 m (by omega) c).1 (h1 m (by omega) c).2]
      have := ih (q := fun i => q i ∧ i ≠ f m) (n := n) f (fun i hi hp => ⟨(h1 i (by omega) hp).1, (h1 i (by omega) hp).2, fun e => absurd (h2 i m (by omega) (by omega) hp c e) (by omega)⟩) (fun i j hi hj => h2 i j (by omega) (by omega))
      omega
    · rw [gq_cn_f c]
      exact ih f (fun i hi => h1 i (by omega)) (fun i j hi hj => h2 i j (by omega) (by omega))
end
section
/-- the cell of the i-th walker in a joint state -/
def ag_ce (s : Nat) : Nat → Nat
  | 0 => s % 12
  | 1 => s / 12 % 12
  | _ => s / 144 % 12
/-- 12 to the k, 5 to the k (k at most 3) -/
def ag_bd : Nat → Nat
  | 0 => 1
  | 1 => 12
  | 2 => 144
  | _ => 1728
def ag_cs : Nat → Nat
  | 0 => 1
  | 1 => 5
  | 2 => 25
  | _ => 125
/-- the i-th option of a choice -/
def ag_oe (c : Nat) : Nat → Nat
  | 0 => c % 5
  | 1 => c / 5 % 5
  | _ => c / 25 % 5
theorem ag_ce_lt (s i : Nat) : ag_ce s i < 12 := by
  match i with
  | 0 => exact Nat.mod_lt _ (by omega)
  | 1 => exact Nat.mod_lt _ (by omega)
  | _ + 2 => exact Nat.mod_lt _ (by omega)
theorem ag_oe_lt (s i : Nat) : ag_oe s i < 5 := by
  match i with
  | 0 => exact Nat.mod_lt _ (by omega)
  | 1 => exact Nat.mod_lt _ (by omega)
  | _ + 2 => exact Nat.mod_lt _ (by omega)
theorem ag_k3 {k : Nat} (h : k ≤ 3) : k = 0 ∨ k = 1 ∨ k = 2 ∨ k = 3 := by omega
theorem ag_i3 {k : Nat} (h : k < 3) : k = 0 ∨ k = 1 ∨ k = 2 := by omega
theorem ag_bd_le {k : Nat} : ag_bd k ≤ 1728 := by
  match k with
  | 0 => decide
  | 1 => decide
  | 2 => decide
  | _ + 3 => exact Nat.le_refl _
theorem ag_ce_ext {k s s' : Nat} (hk : k ≤ 3) (h : s < ag_bd k) (h' : s' < ag_bd k) (e : ∀ i, i < k → ag_ce s i = ag_ce s' i) : s = s' := by
  rcases ag_k3 hk with z | z | z | z <;> subst z
  · have h1 : s < 1 := h
    have h2 : s' < 1 := h'
    omega
  · have h1 : s < 12 := h
    have h2 : s' < 12 := h'
    have e0 : s % 12 = s' % 12 := e 0 (by omega)
    omega
  · have h1 : s < 144 := h
    have h2 : s' < 144 := h'
    have e0 : s % 12 = s' % 12 := e 0 (by omega)
    have e1 : s / 12 % 12 = s' / 12 % 12 := e 1 (by omega)
    omega
  · have h1 : s < 1728 := h
    have h2 : s' < 1728 := h'
    have e0 : s % 12 = s' % 12 := e 0 (by omega)
    have e1 : s / 12 % 12 = s' / 12 % 12 := e 1 (by omega)
    have e2 : s / 144 % 12 = s' / 144 % 12 := e 2 (by omega)
    omega
theorem ag_oe_ext {k s s' : Nat} (hk : k ≤ 3) (h : s < ag_cs k) (h' : s' < ag_cs k) (e : ∀ i, i < k → ag_oe s i = ag_oe s' i) : s = s' := by
  rcases ag_k3 hk with z | z | z | z <;> subst z
  · have h1 : s < 1 := h
    have h2 : s' < 1 := h'
    omega
  · have h1 : s < 5 := h
    have h2 : s' < 5 := h'
    have e0 : s % 5 = s' % 5 := e 0 (by omega)
    omega
  · have h1 : s < 25 := h
    have h2 : s' < 25 := h'
    have e0 : s % 5 = s' % 5 := e 0 (by omega)
    have e1 : s / 5 % 5 = s' / 5 % 5 := e 1 (by omega)
    omega
  · have h1 : s < 125 := h
    have h2 : s' < 125 := h'
    have e0 : s % 5 = s' % 5 := e 0 (by omega)
    have e1 : s / 5 % 5 = s' / 5 % 5 := e 1 (by omega)
    have e2 : s / 25 % 5 = s' / 25 % 5 := e 2 (by omega)
    omega
theorem ag_enc_step {i s x : Nat} (hi : i < 3) (h : s < ag_bd i) (hx : x < 12) : s + ag_bd i * x < ag_bd (i + 1) ∧ ag_ce (s + ag_bd i * x) i = x ∧ ∀ j, j < i → ag_ce (s + ag_bd i * x) j = ag_ce s j := by
  rcases ag_i3 hi with z | z | z <;> subst z
  · have h1 : s < 1 := h
    refine ⟨?_, ?_, fun j hj => absurd hj (by omega)⟩
    · show s + 1 * x < 12
      omega
    · show (s + 1 * x) % 12 = x
      omega
  · have h1 : s < 12 := h
    refine ⟨?_, ?_, fun j hj => ?_⟩
    · show s + 12 * x < 144
      omega
    · show (s + 12 * x) / 12 % 12 = x
      omega
    · have : j = 0 := by omega
      subst this
      show (s + 12 * x) % 12 = s % 12
      omega
  · have h1 : s < 144 := h
    refine ⟨?_, ?_, fun j hj => ?_⟩
    · show s + 144 * x < 1728
      omega
    · show (s + 144 * x) / 144 % 12 = x
      omega
    · have : j = 0 ∨ j = 1 := by omega
      rcases this with z | z <;> subst z
      · show (s + 144 * x) % 12 = s % 12
        omega
      · show (s + 144 * x) / 12 % 12 = s / 12 % 12
        omega
theorem ag_oenc_step {i s x : Nat} (hi : i < 3) (h : s < ag_cs i) (hx : x < 5) : s + ag_cs i * x < ag_cs (i + 1) ∧ ag_oe (s + ag_cs i * x) i = x ∧ ∀ j, j < i → ag_oe (s + ag_cs i * x) j = ag_oe s j := by
  rcases ag_i3 hi with z | z | z <;> subst z
  · have h1 : s < 1 := h
    refine ⟨?_, ?_, fun j hj => absurd hj (by omega)⟩
    · show s + 1 * x < 5
      omega
    · show (s + 1 * x) % 5 = x
      omega
  · have h1 : s < 5 := h
    refine ⟨?_, ?_, fun j hj => ?_⟩
    · show s + 5 * x < 25
      omega
    · show (s + 5 * x) / 5 % 5 = x
      omega
    · have : j = 0 := by omega
      subst this
      show (s + 5 * x) % 5 = s % 5
      omega
  · have h1 : s < 25 := h
    refine ⟨?_, ?_, fun j hj => ?_⟩
    · show s + 25 * x < 125
      omega
    · show (s + 25 * x) / 25 % 5 = x
      omega
    · have : j = 0 ∨ j = 1 := by omega
      rcases this with z | z <;> subst z
      · show (s + 25 * x) % 5 = s % 5
        omega
      · show (s + 25 * x) / 5 % 5 = s / 5 % 5
        omega
theorem ag_enc (f : Nat → Nat) : ∀ k, k ≤ 3 → (∀ i, i < k → f i < 12) → ∃ s, s < ag_bd k ∧ ∀ i, i < k → ag_ce s i = f i := by
  intro k
  induction k with
  | zero => intro _ _; exact ⟨0, by decide, fun i hi => absurd hi (by omega)⟩
  | succ k ih =>
    intro hk hf
    obtain ⟨s, h1, h2⟩ := ih (by omega) (fun i hi => hf i (by omega))
    obtain ⟨g1, g2, g3⟩ := ag_enc_step (i := k) (s := s) (x := f k) (by omega) h1 (hf k (by omega))
    refine ⟨_, g1, fun i hi => ?_⟩
    by_cases c : i = k
    · subst c
      exact g2
    · rw [g3 i (by omega)]
      exact h2 i (by omega)
theorem ag_oenc (f : Nat → Nat) : ∀ k, k ≤ 3 → (∀ i, i < k → f i < 5) → ∃ s, s < ag_cs k ∧ ∀ i, i < k → ag_oe s i = f i := by
  intro k
  induction k with
  | zero => intro _ _; exact ⟨0, by decide, fun i hi => absurd hi (by omega)⟩
  | succ k ih =>
    intro hk hf
    obtain ⟨s, h1, h2⟩ := ih (by omega) (fun i hi => hf i (by omega))
    obtain ⟨g1, g2, g3⟩ := ag_oenc_step (i := k) (s := s) (x := f k) (by omega) h1 (hf k (by omega))
    refine ⟨_, g1, fun i hi => ?_⟩
    by_cases c : i = k
    · subst c
      exact g2
    · rw [g3 i (by omega)]
      exact h2 i (by omega)
/-- the digits as the loops take them -/
theorem ag_dig {s i : Nat} (hi : i < 3) : s / ag_bd i % 12 = ag_ce s i := by
  rcases ag_i3 hi with z | z | z <;> subst z
  · show s / 1 % 12 = s % 12
    omega
  · rfl
  · rfl
theorem ag_dig2 {s i : Nat} (hi : i < 3) : s / ag_bd i / 12 = s / ag_bd (i + 1) := by
  rcases ag_i3 hi with z | z | z <;> subst z
  · show s / 1 / 12 = s / 12
    omega
  · show s / 12 / 12 = s / 144
    omega
  · show s / 144 / 12 = s / 1728
    omega
theorem ag_odig {s i : Nat} (hi : i < 3) : s / ag_cs i % 5 = ag_oe s i := by
  rcases ag_i3 hi with z | z | z <;> subst z
  · show s / 1 % 5 = s % 5
    omega
  · rfl
  · rfl
theorem ag_odig2 {s i : Nat} (hi : i < 3) : s / ag_cs i / 5 = s / ag_cs (i + 1) := by
  rcases ag_i3 hi with z | z | z <;> subst z
  · show s / 1 / 5 = s / 5
    omega
  · show s / 5 / 5 = s / 25
    omega
  · show s / 25 / 5 = s / 125
    omega
/-- the table of steps: by 4 * cell + direction the cell beside it, or -1 -/
def ag_TOK (T : Nat → Int32) : Prop := ∀ c d, c < 12 → d < 4 → T (4 * c + d) = -1 ∨ ∃ c', c' < 12 ∧ c' ≠ c ∧ T (4 * c + d) = nI c'
def ag_E (T : Nat → Int32) (c c' : Nat) : Prop := c' < 12 ∧ ∃ d, d < 4 ∧ T (4 * c + d) = nI c'
theorem ag_E_ne {T : Nat → Int32} (hT : ag_TOK T) {c c' : Nat} (hc : c < 12) (h : ag_E T c c') : c' ≠ c := by
  obtain ⟨h1, d, hd, h2⟩ := h
  rcases hT c d hc hd with z | ⟨x, hx, hn, z⟩
  · rw [z] at h2
    have : ¬ nI c' < 0 := nI_pos (by omega)
    rw [← h2] at this
    exact absurd (show (-1 : Int32) < 0 by decide) this
  · rw [z] at h2
    have := (nI_eq (a := x) (b := c') (by omega) (by omega)).mp h2
    omega
theorem ag_neg1 {n : Nat} (h : n < 2 ^ 31) : nI n ≠ -1 := fun z => by
  have : ¬ nI n < 0 := nI_pos h
  rw [z] at this
  exact absurd (show (-1 : Int32) < 0 by decide) this
/-- least number of steps; 1000000 for none -/
noncomputable def ag_dd (T : Nat → Int32) (g c : Nat) : Nat :=
  @dite Nat (∃ n, gq_wk (ag_E T) n c g) (Classical.propDecidable _) (fun h => Classical.choose (gq_least _ h)) (fun _ => 1000000)
theorem ag_dd_some {T : Nat → Int32} {g c n : Nat} (h : gq_wk (ag_E T) n c g) : gq_wk (ag_E T) (ag_dd T g c) c g ∧ ag_dd T g c ≤ n ∧ ∀ j, j < ag_dd T g c → ¬ gq_wk (ag_E T) j c g := by
  have h0 : ∃ n, gq_wk (ag_E T) n c g := ⟨n, h⟩
  have e : ag_dd T g c = Classical.choose (gq_least _ h0) := by
    unfold ag_dd
    rw [dif_pos h0]
  have s := Classical.choose_spec (gq_least _ h0)
  rw [← e] at s
  refine ⟨s.1, ?_, s.2⟩
  rcases Nat.lt_or_ge n (ag_dd T g c) with z | z
  · exact absurd h (s.2 n z)
  · exact z
theorem ag_dd_none {T : Nat → Int32} {g c : Nat} (h : ∀ n, ¬ gq_wk (ag_E T) n c g) : ag_dd T g c = 1000000 := by
  unfold ag_dd
  rw [dif_neg (fun z => h _ z.choose_spec)]
theorem ag_E_lt {T : Nat → Int32} : ∀ x y, x < 12 → ag_E T x y → y < 12 := fun _ _ _ h => h.1
theorem ag_dd_cases {T : Nat → Int32} {g c : Nat} (hc : c < 12) : (ag_dd T g c < 12 ∧ gq_wk (ag_E T) (ag_dd T g c) c g) ∨ (ag_dd T g c = 1000000 ∧ ∀ n, ¬ gq_wk (ag_E T) n c g) := by
  by_cases h : ∃ n, gq_wk (ag_E T) n c g
  · obtain ⟨n, h⟩ := h
    obtain ⟨m, m1, m2, m3, m4⟩ := gq_lt hc ag_E_lt h
    obtain ⟨s1, s2, s3⟩ := ag_dd_some m3
    exact Or.inl ⟨by omega, s1⟩
  · have h' : ∀ n, ¬ gq_wk (ag_E T) n c g := fun n z => h ⟨n, z⟩
    exact Or.inr ⟨ag_dd_none h', h'⟩
theorem ag_dd_le {T : Nat → Int32} {g c n : Nat} (h : gq_wk (ag_E T) n c g) : ag_dd T g c ≤ n := (ag_dd_some h).2.1
theorem ag_dd_wk {T : Nat → Int32} {g c : Nat} (hc : c < 12) (h : ag_dd T g c < 1000000) : gq_wk (ag_E T) (ag_dd T g c) c g := by
  rcases ag_dd_cases (T := T) (g := g) hc with z | z
  · exact z.2
  · exact absurd z.1 (by omega)
theorem ag_dd_self {T : Nat → Int32} {g : Nat} : ag_dd T g g = 0 := by
  have := ag_dd_le (T := T) (g := g) (c := g) (n := 0) rfl
  omega
theorem ag_dd_0 {T : Nat → Int32} {g c : Nat} (hc : c < 12) (h : ag_dd T g c = 0) : c = g := by
  have := ag_dd_wk (T := T) (g := g) hc (by omega)
  rw [h] at this
  exact this
theorem ag_dd_step {T : Nat → Int32} {g c c' : Nat} (hc : c < 12) (h : ag_E T c c') (hf : ag_dd T g c' < 1000000) : ag_dd T g c ≤ ag_dd T g c' + 1 :=
  ag_dd_le ⟨c', h, ag_dd_wk h.1 hf⟩
theorem ag_dd_pred {T : Nat → Int32} {g c n : Nat} (hc : c < 12) (h : ag_dd T g c = n + 1) (hn : n + 1 < 1000000) : ∃ c', ag_E T c c' ∧ ag_dd T g c' = n := by
  have w := ag_dd_wk (T := T) (g := g) hc (by omega)
  rw [h] at w
  obtain ⟨c', h1, h2⟩ := w
  have l1 := ag_dd_le h2
  have l2 := ag_dd_step (g := g) hc h1 (by omega)
  exact ⟨c', h1, by omega⟩
theorem ag_dd_lt {T : Nat → Int32} {g c : Nat} (hc : c < 12) : ag_dd T g c ≤ 1000000 := by
  rcases ag_dd_cases (T := T) (g := g) hc with z | z
  · omega
  · omega
/-- a lazy walk bounds the distance -/
theorem ag_dd_lazy {T : Nat → Int32} {g c n : Nat} (h : gq_wk (fun x y => y = x ∨ ag_E T x y) n c g) : ag_dd T g c ≤ n := by
  obtain ⟨m, hm, hw⟩ := gq_lazy h
  have := ag_dd_le hw
  omega
/-- one of the choices of one walker: where it leads -/
def ag_op (T : Nat → Int32) (x o : Nat) : Int32 := if o = 0 then nI x else T (4 * x + o - 1)
/-- choice c leads from s to s', and nobody is in the way -/
def ag_clr (k s s' : Nat) : Prop := ∀ i j, i < j → j < k → ag_ce s' i ≠ ag_ce s' j ∧ ¬ (ag_ce s' i = ag_ce s j ∧ ag_ce s' j = ag_ce s i)
def ag_J1 (T : Nat → Int32) (k s c s' : Nat) : Prop := s' < ag_bd k ∧ (∀ i, i < k → ag_op T (ag_ce s i) (ag_oe c i) = nI (ag_ce s' i)) ∧ ag_clr k s s'
/-- joint steps by choices other than staying -/
def ag_JJ (T : Nat → Int32) (k s s' : Nat) : Prop := ∃ c, 1 ≤ c ∧ c < ag_cs k ∧ ag_J1 T k s c s'
/-- lazy joint steps, cell by cell -/
def ag_JC (T : Nat → Int32) (k s s' : Nat) : Prop := s' < ag_bd k ∧ (∀ i, i < k → ag_ce s' i = ag_ce s i ∨ ag_E T (ag_ce s i) (ag_ce s' i)) ∧ ag_clr k s s'
theorem ag_op_c {T : Nat → Int32} {x o y : Nat} (hx : x < 12) (ho : o < 5) (hy : y < 12) (h : ag_op T x o = nI y) : (o = 0 ∧ y = x) ∨ (o ≠ 0 ∧ ag_E T x y) := by
  unfold ag_op at h
  by_cases c : o = 0
  · rw [if_pos c] at h
    exact Or.inl ⟨c, ((nI_eq (by omega) (by omega)).mp h).symm⟩
  · rw [if_neg c] at h
    rw [show 4 * x + o - 1 = 4 * x + (o - 1) by omega] at h
    exact Or.inr ⟨c, hy, o - 1, by omega, h⟩
theorem ag_op_ex {T : Nat → Int32} {x y : Nat} (h : y = x ∨ ag_E T x y) : ∃ o, o < 5 ∧ ag_op T x o = nI y := by
  rcases h with z | z
  · exact ⟨0, by omega, by rw [z]; rfl⟩
  · obtain ⟨_, d, hd, e⟩ := z
    refine ⟨d + 1, by omega, ?_⟩
    unfold ag_op
    rw [if_neg (by omega), show 4 * x + (d + 1) - 1 = 4 * x + d by omega]
    exact e
theorem ag_J1_C {T : Nat → Int32} {k s c s' : Nat} (h : ag_J1 T k s c s') : ag_JC T k s s' := by
  refine ⟨h.1, fun i hi => ?_, h.2.2⟩
  rcases ag_op_c (ag_ce_lt _ _) (ag_oe_lt c i) (ag_ce_lt _ _) (h.2.1 i hi) with z | z
  · exact Or.inl z.2
  · exact Or.inr z.2
theorem ag_JJ_C {T : Nat → Int32} {k s s' : Nat} (h : ag_JJ T k s s') : ag_JC T k s s' := by
  obtain ⟨c, _, _, h⟩ := h
  exact ag_J1_C h
theorem ag_JC_1 {T : Nat → Int32} {k s s' : Nat} (hk : k ≤ 3) (h : ag_JC T k s s') : ∃ c, c < ag_cs k ∧ ag_J1 T k s c s' := by
  have hx : ∀ i, ∃ o, i < k → o < 5 ∧ ag_op T (ag_ce s i) o = nI (ag_ce s' i) := by
    intro i
    by_cases c : i < k
    · obtain ⟨o, h1, h2⟩ := ag_op_ex (h.2.1 i c)
      exact ⟨o, fun _ => ⟨h1, h2⟩⟩
    · exact ⟨0, fun z => absurd z c⟩
  have hf : ∃ f : Nat → Nat, ∀ i, i < k → f i < 5 ∧ ag_op T (ag_ce s i) (f i) = nI (ag_ce s' i) := ⟨fun i => Classical.choose (hx i), fun i hi => Classical.choose_spec (hx i) hi⟩
  obtain ⟨f, hf⟩ := hf
  obtain ⟨c, c1, c2⟩ := ag_oenc f k hk (fun i hi => (hf i hi).1)
  exact ⟨c, c1, h.1, fun i hi => by rw [c2 i hi]; exact (hf i hi).2, h.2.2⟩
theorem ag_J1_0 {T : Nat → Int32} {k s s' : Nat} (hk : k ≤ 3) (hs : s < ag_bd k) (h : ag_J1 T k s 0 s') : s' = s := by
  refine (ag_ce_ext hk hs h.1 (fun i hi => ?_)).symm
  have h2 := h.2.1 i hi
  have : ag_oe 0 i = 0 := by
    match i with
    | 0 => rfl
    | 1 => rfl
    | _ + 2 => rfl
  rw [this] at h2
  unfold ag_op at h2
  rw [if_pos rfl] at h2
  have l1 := ag_ce_lt s i
  have l2 := ag_ce_lt s' i
  exact (nI_eq (by omega) (by omega)).mp h2
theorem ag_JC_J {T : Nat → Int32} {k s s' : Nat} (hk : k ≤ 3) (hs : s < ag_bd k) (h : ag_JC T k s s') : s' = s ∨ ag_JJ T k s s' := by
  obtain ⟨c, h1, h2⟩ := ag_JC_1 hk h
  by_cases z : c = 0
  · subst z
    exact Or.inl (ag_J1_0 hk hs h2)
  · exact Or.inr ⟨c, by omega, h1, h2⟩
theorem ag_J1_ne {T : Nat → Int32} (hT : ag_TOK T) {k s c s' : Nat} (hk : k ≤ 3) (hc : c < ag_cs k) (h0 : 1 ≤ c) (h : ag_J1 T k s c s') : ∃ i, i < k ∧ ag_ce s' i ≠ ag_ce s i := by
  have hx : ∃ i, i < k ∧ ag_oe c i ≠ 0 := by
    by_cases z : ∃ i, i < k ∧ ag_oe c i ≠ 0
    · exact z
    · have : c = 0 := by
        refine ag_oe_ext hk hc (by rcases ag_k3 hk with w | w | w | w <;> subst w <;> decide) (fun i hi => ?_)
        have h1 : ag_oe c i = 0 := by
          by_cases y : ag_oe c i = 0
          · exact y
          · exact absurd ⟨i, hi, y⟩ z
        rw [h1]
        match i with
        | 0 => rfl
        | 1 => rfl
        | _ + 2 => rfl
      omega
  obtain ⟨i, hi, ho⟩ := hx
  rcases ag_op_c (ag_ce_lt _ _) (ag_oe_lt c i) (ag_ce_lt _ _) (h.2.1 i hi) with z | z
  · exact absurd z.1 ho
  · exact ⟨i, hi, ag_E_ne hT (ag_ce_lt _ _) z.2⟩
theorem ag_JJ_ne {T : Nat → Int32} (hT : ag_TOK T) {k s s' : Nat} (hk : k ≤ 3) (h : ag_JJ T k s s') : s' ≠ s := by
  obtain ⟨c, h0, h1, h⟩ := h
  obtain ⟨i, _, hn⟩ := ag_J1_ne hT hk h1 h0 h
  exact fun z => hn (by rw [z])
theorem ag_JJ_lt {T : Nat → Int32} {k s s' : Nat} (h : ag_JJ T k s s') : s' < ag_bd k := (ag_JJ_C h).1
/-- a lazy joint walk is a joint walk, not longer -/
theorem ag_JC_wk {T : Nat → Int32} {k : Nat} (hk : k ≤ 3) : ∀ {n a b}, a < ag_bd k → gq_wk (ag_JC T k) n a b → ∃ m, m ≤ n ∧ gq_wk (ag_JJ T k) m a b := by
  intro n
  induction n with
  | zero => intro a b _ h; exact ⟨0, by omega, h⟩
  | succ n ih =>
    intro a b ha h
    obtain ⟨d, h3, h4⟩ := h
    obtain ⟨m, hm, hw⟩ := ih h3.1 h4
    rcases ag_JC_J hk ha h3 with c | c
    · rw [c] at hw
      exact ⟨m, by omega, hw⟩
    · exact ⟨m + 1, by omega, ⟨d, c, hw⟩⟩
/-- all cells differ -/
def ag_dif (k s : Nat) : Prop := s < ag_bd k ∧ ∀ i j, i < j → j < k → ag_ce s i ≠ ag_ce s j
theorem ag_JC_dif {T : Nat → Int32} {k s s' : Nat} (h : ag_JC T k s s') : ag_dif k s' := ⟨h.1, fun i j hi hj => (h.2.2 i j hi hj).1⟩
theorem ag_JC_refl {T : Nat → Int32} {k s : Nat} (h : ag_dif k s) : ag_JC T k s s :=
  ⟨h.1, fun _ _ => Or.inl rfl, fun i j hi hj => ⟨h.2 i j hi hj, fun z => h.2 i j hi hj z.1⟩⟩
/-- the walk of one walker in a joint walk -/
theorem ag_proj {T : Nat → Int32} {k : Nat} {i : Nat} (hi : i < k) : ∀ {n a b}, gq_wk (ag_JC T k) n a b → gq_wk (fun x y => y = x ∨ ag_E T x y) n (ag_ce a i) (ag_ce b i) := by
  intro n
  induction n with
  | zero =>
    intro a b h
    have h' : a = b := h
    rw [h']
    exact rfl
  | succ n ih =>
    intro a b h
    obtain ⟨d, h3, h4⟩ := h
    exact ⟨ag_ce d i, h3.2.1 i hi, ih h4⟩
theorem ag_JJ_wkC {T : Nat → Int32} {k n a b : Nat} (h : gq_wk (ag_JJ T k) n a b) : gq_wk (ag_JC T k) n a b := gq_mono (fun _ _ => ag_JJ_C) h
end
section
/-- walks with a price -/
def gq_pw (R : Nat → Nat → Prop) (wt : Nat → Nat → Nat) : Nat → Nat → Nat → Nat → Prop
  | 0, c, a, b => a = b ∧ c = 0
  | n + 1, c, a, b => ∃ m e, R a m ∧ gq_pw R wt n e m b ∧ c = wt a m + e
theorem gq_pw_snoc {R : Nat → Nat → Prop} {wt : Nat → Nat → Nat} : ∀ {n c a b d}, gq_pw R wt n c a b → R b d → gq_pw R wt (n + 1) (c + wt b d) a d := by
  intro n
  induction n with
  | zero =>
    intro c a b d h hr
    obtain ⟨e, e2⟩ := h
    subst e
    subst e2
    exact ⟨d, 0, hr, ⟨rfl, rfl⟩, by omega⟩
  | succ n ih =>
    intro c a b d h hr
    obtain ⟨m, e, h1, h2, h3⟩ := h
    exact ⟨m, e + wt b d, h1, ih h2 hr, by omega⟩
theorem gq_pw_wk {R : Nat → Nat → Prop} {wt : Nat → Nat → Nat} : ∀ {n c a b}, gq_pw R wt n c a b → gq_wk R n a b := by
  intro n
  induction n with
  | zero => intro c a b h; exact h.1
  | succ n ih =>
    intro c a b h
    obtain ⟨m, e, h1, h2, h3⟩ := h
    exact ⟨m, h1, ih h2⟩
theorem gq_wk_pw {R : Nat → Nat → Prop} {wt : Nat → Nat → Nat} {B : Nat} (hB : ∀ a b, R a b → wt a b ≤ B) : ∀ {n a b}, gq_wk R n a b → ∃ c, gq_pw R wt n c a b ∧ c ≤ B * n := by
  intro n
  induction n with
  | zero => intro a b h; exact ⟨0, ⟨h, rfl⟩, by omega⟩
  | succ n ih =>
    intro a b h
    obtain ⟨m, h1, h2⟩ := h
    obtain ⟨c, h3, h4⟩ := ih h2
    refine ⟨wt a m + c, ⟨m, c, h1, h3, rfl⟩, ?_⟩
    have := hB a m h1
    rw [Nat.mul_succ]
    omega
theorem gq_pw_ge {R : Nat → Nat → Prop} {wt : Nat → Nat → Nat} (hB : ∀ a b, R a b → 1 ≤ wt a b) : ∀ {n c a b}, gq_pw R wt n c a b → n ≤ c := by
  intro n
  induction n with
  | zero => intro c a b h; omega
  | succ n ih =>
    intro c a b h
    obtain ⟨m, e, h1, h2, h3⟩ := h
    have := ih h2
    have := hB a m h1
    omega
theorem gq_pw_eq {R : Nat → Nat → Prop} {wt : Nat → Nat → Nat} (hB : ∀ a b, R a b → wt a b = 1) : ∀ {n c a b}, gq_pw R wt n c a b → c = n := by
  intro n
  induction n with
  | zero => intro c a b h; exact h.2
  | succ n ih =>
    intro c a b h
    obtain ⟨m, e, h1, h2, h3⟩ := h
    have := ih h2
    have := hB a m h1
    omega
/-- what the search keeps: R steps, wt prices, h guesses, s0 the start, N states; g what is paid, cl the closed, og the origins, bst the least whole; D the steps done -/
def as_inv (R : Nat → Nat → Prop) (wt : Nat → Nat → Nat) (h : Nat → Nat) (s0 N : Nat) (D : Nat → Nat → Prop) (g : Nat → Nat) (cl : Nat → Prop) (og : Nat → Nat) (bst : Nat) : Prop :=
  g s0 = 0 ∧ (∀ s, s < N → g s ≤ 1000000) ∧
  (∀ s, s < N → g s < 1000000 → s = s0 ∨ (og s < N ∧ cl (og s) ∧ R (og s) s ∧ g s = g (og s) + wt (og s) s)) ∧ og s0 = s0 ∧
  (∀ s, s < N → cl s → g s < 1000000 ∧ h s < 1000000 ∧ g s + h s ≤ bst) ∧
  (∀ s, s < N → ¬ cl s → g s < 1000000 → bst ≤ g s + h s) ∧
  (∀ s, s < N → cl s → ∀ t, t < N → D s t → g t ≤ g s + wt s t)
/-- the guess never falls by more than what is paid -/
def as_con (R : Nat → Nat → Prop) (wt : Nat → Nat → Nat) (h : Nat → Nat) : Prop := ∀ a b, R a b → 1 ≤ wt a b ∧ (h b < 1000000 → h a < 1000000 ∧ h a ≤ wt a b + h b)
theorem as_weak {R D D' : Nat → Nat → Prop} {wt : Nat → Nat → Nat} {h : Nat → Nat} {s0 N : Nat} {g : Nat → Nat} {cl : Nat → Prop} {og : Nat → Nat} {bst : Nat}
    (i : as_inv R wt h s0 N D g cl og bst) (hD : ∀ s t, s < N → t < N → cl s → D' s t → D s t) : as_inv R wt h s0 N D' g cl og bst := by
  obtain ⟨i1, i2, i3, i4, i5, i6, i7⟩ := i
  exact ⟨i1, i2, i3, i4, i5, i6, fun s hs hc t ht hd => i7 s hs hc t ht (hD s t hs ht hc hd)⟩
theorem as_close {R : Nat → Nat → Prop} {wt : Nat → Nat → Nat} {h : Nat → Nat} {s0 N : Nat} {g : Nat → Nat} {cl : Nat → Prop} {og : Nat → Nat} {bst x : Nat}
    (i : as_inv R wt h s0 N R g cl og bst) (hx : x < N) (hb : bst < 1000000) (hw : g x + h x = bst) :
    as_inv R wt h s0 N (fun s t => s ≠ x ∧ R s t) g (fun s => s = x ∨ cl s) og bst := by
  obtain ⟨i1, i2, i3, i4, i5, i6, i7⟩ := i
  refine ⟨i1, i2, fun s hs hg => ?_, i4, fun s hs hc => ?_, fun s hs hc hg => i6 s hs (fun z => hc (Or.inr z)) hg, fun s hs hc t ht hd => ?_⟩
  · rcases i3 s hs hg with z | ⟨z1, z2, z3⟩
    · exact Or.inl z
    · exact Or.inr ⟨z1, Or.inr z2, z3⟩
  · rcases hc with z | z
    · subst z
      omega
    · exact i5 s hs z
  · rcases hc with z | z
    · exact absurd z hd.1
    · exact i7 s hs z t ht hd.2
/-- one step of the search: the step from x to t is looked at -/
theorem as_relax {R D : Nat → Nat → Prop} {wt : Nat → Nat → Nat} {h : Nat → Nat} {s0 N : Nat} {g : Nat → Nat} {cl : Nat → Prop} {og : Nat → Nat} {bst x t : Nat}
    (hc : as_con R wt h) (i : as_inv R wt h s0 N D g cl og bst) (hx : x < N) (hcx : cl x) (hw : g x + h x = bst) (hb : bst < 1000000) (ht : t < N) (hR : R x t) (hp : g x + wt x t < g t) :
    ¬ cl t ∧ t ≠ x ∧ as_inv R wt h s0 N (fun s u => D s u ∨ (s = x ∧ u = t)) (fun s => if s = t then g x + wt x t else g s) cl (fun s => if s = t then x else og s) bst := by
  obtain ⟨i1, i2, i3, i4, i5, i6, i7⟩ := i
  obtain ⟨c1, c2⟩ := hc x t hR
  have nt : ¬ cl t := fun z => by
    obtain ⟨z1, z2, z3⟩ := i5 t ht z
    have := c2 z2
    omega
  have nx : t ≠ x := fun z => nt (by rw [z]; exact hcx)
  have n0 : s0 ≠ t := fun z => by
    rw [← z] at hp
    omega
  have g2 := i2 t ht
  refine ⟨nt, nx, ?_, fun s hs => ?_, fun s hs hg => ?_, ?_, fun s hs hcs => ?_, fun s hs hcs hg => ?_, fun s hs hcs u hu hd => ?_⟩
  · show (if s0 = t then _ else g s0) = 0
    rw [if_neg n0]
    exact i1
  · show (if s = t then _ else g s) ≤ 1000000
    by_cases e : s = t
    · rw [if_pos e]; omega
    · rw [if_neg e]; exact i2 s hs
  · by_cases e : s = t
    · subst e
      refine Or.inr ?_
      show (if s = s then x else og s) < N ∧ cl (if s = s then x else og s) ∧ R (if s = s then x else og s) s ∧ (if s = s then g x + wt x s else g s) = (if (if s = s then x else og s) = s then g x + wt x s else g (if s = s then x else og s)) + wt (if s = s then x else og s) s
      rw [if_pos rfl, if_pos rfl, if_neg (fun z => nx z.symm)]
      exact ⟨hx, hcx, hR, rfl⟩
    · have hg' : g s < 1000000 := by
        have hg2 : (if s = t then g x + wt x t else g s) < 1000000 := hg
        rw [if_neg e] at hg2
        exact hg2
      rcases i3 s hs hg' with z | ⟨z1, z2, z3, z4⟩
      · exact Or.inl z
      · refine Or.inr ?_
        show (if s = t then x else og s) < N ∧ cl (if s = t then x else og s) ∧ R (if s = t then x else og s) s ∧ (if s = t then g x + wt x t else g s) = (if (if s = t then x else og s) = t then g x + wt x t else g (if s = t then x else og s)) + wt (if s = t then x else og s) s
        rw [if_neg e, if_neg e, if_neg (fun z => nt (by rw [← z]; exact z2))]
        exact ⟨z1, z2, z3, z4⟩
  · show (if s0 = t then x else og s0) = s0
    rw [if_neg n0]
    exact i4
  · have e : s ≠ t := fun z => nt (by rw [← z]; exact hcs)
    show (if s = t then _ else g s) < 1000000 ∧ h s < 1000000 ∧ (if s = t then _ else g s) + h s ≤ bst
    rw [if_neg e]
    exact i5 s hs hcs
  · show bst ≤ (if s = t then _ else g s) + h s
    by_cases e : s = t
    · rw [if_pos e, e]
      rcases Nat.lt_or_ge (h t) 1000000 with z | z
      · have := c2 z
        omega
      · omega
    · rw [if_neg e]
      refine i6 s hs hcs ?_
      have hg2 : (if s = t then g x + wt x t else g s) < 1000000 := hg
      rw [if_neg e] at hg2
      exact hg2
  · have e : s ≠ t := fun z => nt (by rw [← z]; exact hcs)
    show (if u = t then g x + wt x t else g u) ≤ (if s = t then g x + wt x t else g s) + wt s u
    rw [if_neg e]
    by_cases eu : u = t
    · rw [if_pos eu]
      rcases hd with z | z
      · have := i7 s hs hcs u hu z
        rw [eu] at this ⊢
        omega
      · rw [z.1, eu]
        exact Nat.le_refl _
    · rw [if_neg eu]
      rcases hd with z | z
      · exact i7 s hs hcs u hu z
      · exact absurd z.2 eu
theorem as_norelax {R D : Nat → Nat → Prop} {wt : Nat → Nat → Nat} {h : Nat → Nat} {s0 N : Nat} {g : Nat → Nat} {cl : Nat → Prop} {og : Nat → Nat} {bst x t : Nat}
    (i : as_inv R wt h s0 N D g cl og bst) (hp : g t ≤ g x + wt x t) : as_inv R wt h s0 N (fun s u => D s u ∨ (s = x ∧ u = t)) g cl og bst := by
  obtain ⟨i1, i2, i3, i4, i5, i6, i7⟩ := i
  refine ⟨i1, i2, i3, i4, i5, i6, fun s hs hcs u hu hd => ?_⟩
  rcases hd with z | z
  · exact i7 s hs hcs u hu z
  · rw [z.1, z.2]
    exact hp
/-- the least whole is raised -/
theorem as_raise {R D : Nat → Nat → Prop} {wt : Nat → Nat → Nat} {h : Nat → Nat} {s0 N : Nat} {g : Nat → Nat} {cl : Nat → Prop} {og : Nat → Nat} {bst b' : Nat}
    (i : as_inv R wt h s0 N D g cl og bst) (hb : bst ≤ b') (hl : ∀ s, s < N → ¬ cl s → g s < 1000000 → b' ≤ g s + h s) : as_inv R wt h s0 N D g cl og b' := by
  obtain ⟨i1, i2, i3, i4, i5, i6, i7⟩ := i
  exact ⟨i1, i2, i3, i4, fun s hs hcs => ⟨(i5 s hs hcs).1, (i5 s hs hcs).2.1, Nat.le_trans (i5 s hs hcs).2.2 hb⟩, hl, i7⟩
theorem as_pw {R D : Nat → Nat → Prop} {wt : Nat → Nat → Nat} {h : Nat → Nat} {s0 N : Nat} {g : Nat → Nat} {cl : Nat → Prop} {og : Nat → Nat} {bst : Nat}
    (hc : as_con R wt h) (i : as_inv R wt h s0 N D g cl og bst) : ∀ v s, g s ≤ v → s < N → g s < 1000000 → ∃ (n : Nat) (p : Nat → Nat), p 0 = s0 ∧ p n = s ∧ (∀ j, j ≤ n → p j < N ∧ g (p j) < 1000000) ∧ (∀ j, j < n → R (p j) (p (j + 1)) ∧ og (p (j + 1)) = p j ∧ p (j + 1) ≠ s0 ∧ g (p (j + 1)) = g (p j) + wt (p j) (p (j + 1))) := by
  intro v
  induction v with
  | zero =>
    intro s hv hs hg
    obtain ⟨i1, i2, i3, i4, i5, i6, i7⟩ := i
    rcases i3 s hs hg with z | ⟨z1, z2, z3, z4⟩
    · exact ⟨0, fun _ => s, z, rfl, fun j _ => ⟨hs, hg⟩, fun j hj => absurd hj (by omega)⟩
    · have := (hc _ _ z3).1
      omega
  | succ v ih =>
    intro s hv hs hg
    obtain ⟨i1, i2, i3, i4, i5, i6, i7⟩ := i
    by_cases hs0 : s = s0
    · exact ⟨0, fun _ => s, hs0, rfl, fun j _ => ⟨hs, hg⟩, fun j hj => absurd hj (by omega)⟩
    · rcases i3 s hs hg with z | ⟨z1, z2, z3, z4⟩
      · exact absurd z hs0
      · have := (hc _ _ z3).1
        obtain ⟨n, p, p0, pn, pl, pr⟩ := ih (og s) (by omega) z1 (by omega)
        refine ⟨n + 1, fun j => if j ≤ n then p j else s, ?_, ?_, fun j hj => ?_, fun j hj => ?_⟩
        · show (if 0 ≤ n then p 0 else s) = s0
          rw [if_pos (by omega)]
          exact p0
        · show (if n + 1 ≤ n then p (n + 1) else s) = s
          rw [if_neg (by omega)]
        · show (if j ≤ n then p j else s) < N ∧ g (if j ≤ n then p j else s) < 1000000
          by_cases c : j ≤ n
          · rw [if_pos c]
            exact pl j c
          · rw [if_neg c]
            exact ⟨hs, hg⟩
        · show R (if j ≤ n then p j else s) (if j + 1 ≤ n then p (j + 1) else s) ∧ og (if j + 1 ≤ n then p (j + 1) else s) = (if j ≤ n then p j else s) ∧ (if j + 1 ≤ n then p (j + 1) else s) ≠ s0 ∧ g (if j + 1 ≤ n then p (j + 1) else s) = g (if j ≤ n then p j else s) + wt (if j ≤ n then p j else s) (if j + 1 ≤ n then p (j + 1) else s)
          rw [if_pos (show j ≤ n by omega)]
          by_cases c : j + 1 ≤ n
          · rw [if_pos c]
            exact pr j (by omega)
          · rw [if_neg c, show j = n by omega, pn]
            exact ⟨z3, rfl, hs0, z4⟩
theorem as_h {R : Nat → Nat → Prop} {wt : Nat → Nat → Nat} {h : Nat → Nat} {go : Nat} (hc : as_con R wt h) (h0 : h go = 0) : ∀ {n c a}, gq_pw R wt n c a go → h a < 1000000 ∧ h a ≤ c := by
  intro n
  induction n with
  | zero =>
    intro c a hw
    rw [hw.1]
    omega
  | succ n ih =>
    intro c a hw
    obtain ⟨m, e, h1, h2, h3⟩ := hw
    have := ih h2
    have := (hc a m h1).2 this.1
    omega
theorem as_front {R : Nat → Nat → Prop} {wt : Nat → Nat → Nat} {h : Nat → Nat} {s0 N go : Nat} {g : Nat → Nat} {cl : Nat → Prop} {og : Nat → Nat} {bst : Nat}
    (hc : as_con R wt h) (hN : ∀ a b, a < N → R a b → b < N) (i : as_inv R wt h s0 N R g cl og bst) (h0 : h go = 0) :
    ∀ {n c a X}, a < N → gq_pw R wt n c a go → g a ≤ X → X + c < 1000000 → (cl go ∧ g go ≤ X + c) ∨ bst ≤ X + c := by
  intro n
  induction n with
  | zero =>
    intro c a X ha hw hX hM
    obtain ⟨e1, e2⟩ := hw
    by_cases z : cl a
    · rw [← e1]
      exact Or.inl ⟨z, by omega⟩
    · have := i.2.2.2.2.2.1 a ha z (by omega)
      rw [e1, h0] at this
      rw [e1] at hX
      exact Or.inr (by omega)
  | succ n ih =>
    intro c a X ha hw hX hM
    by_cases z : cl a
    · obtain ⟨m, e, h1, h2, h3⟩ := hw
      have hm := hN a m ha h1
      have := i.2.2.2.2.2.2 a ha z m hm h1
      have := ih (X := X + wt a m) hm h2 (by omega) (by omega)
      rcases this with y | y
      · exact Or.inl ⟨y.1, by omega⟩
      · exact Or.inr (by omega)
    · have h1 := i.2.2.2.2.2.1 a ha z (by omega)
      have h2 := as_h hc h0 hw
      exact Or.inr (by omega)
/-- a closed goal is paid for as cheaply as can be -/
theorem as_opt {R : Nat → Nat → Prop} {wt : Nat → Nat → Nat} {h : Nat → Nat} {s0 N go : Nat} {g : Nat → Nat} {cl : Nat → Prop} {og : Nat → Nat} {bst : Nat}
    (hc : as_con R wt h) (hN : ∀ a b, a < N → R a b → b < N) (i : as_inv R wt h s0 N R g cl og bst) (h0 : h go = 0) (hs : s0 < N) (hg : go < N) (hcl : cl go) {n c : Nat} (hw : gq_pw R wt n c s0 go) : g go ≤ c := by
  have h5 := i.2.2.2.2.1 go hg hcl
  rcases Nat.lt_or_ge c 1000000 with z | z
  · have := as_front hc hN i h0 hs hw (X := 0) (by rw [i.1]; omega) (by omega)
    omega
  · omega
/-- if the search has ended without the goal there is no walk -/
theorem as_none {R : Nat → Nat → Prop} {wt : Nat → Nat → Nat} {h : Nat → Nat} {s0 N go : Nat} {g : Nat → Nat} {cl : Nat → Prop} {og : Nat → Nat} {bst : Nat}
    (hc : as_con R wt h) (hN : ∀ a b, a < N → R a b → b < N) (i : as_inv R wt h s0 N R g cl og bst) (h0 : h go = 0) (hs : s0 < N) (hcl : ¬ cl go) (hb : 1000000 ≤ bst) {B : Nat} (hB : ∀ a b, R a b → wt a b ≤ B) (hBN : B * N < 1000000) {n : Nat} (hw : gq_wk R n s0 go) : False := by
  obtain ⟨m, hm, _, hw2, _⟩ := gq_lt hs hN hw
  obtain ⟨c, hp, hcB⟩ := gq_wk_pw hB hw2
  have : B * m ≤ B * N := Nat.mul_le_mul_left B (by omega)
  have := as_front hc hN i h0 hs hp (X := 0) (by rw [i.1]; omega) (by omega)
  rcases this with z | z
  · exact hcl z.1
  · omega
/-- greatest and sum of the first n -/
def ag_mx (f : Nat → Nat) : Nat → Nat
  | 0 => 0
  | n + 1 => if f n ≤ ag_mx f n then ag_mx f n else f n
def ag_sm (f : Nat → Nat) : Nat → Nat
  | 0 => 0
  | n + 1 => ag_sm f n + f n
theorem ag_mx_ge {f : Nat → Nat} : ∀ n i, i < n → f i ≤ ag_mx f n := by
  intro n
  induction n with
  | zero => intro i hi; omega
  | succ n ih =>
    intro i hi
    show f i ≤ if f n ≤ ag_mx f n then ag_mx f n else f n
    by_cases c : f n ≤ ag_mx f n
    · rw [if_pos c]
      by_cases e : i = n
      · rw [e]; exact c
      · exact ih i (by omega)
    · rw [if_neg c]
      by_cases e : i = n
      · rw [e]; exact Nat.le_refl _
      · have := ih i (by omega)
        omega
theorem ag_mx_le {f : Nat → Nat} {B : Nat} : ∀ n, (∀ i, i < n → f i ≤ B) → ag_mx f n ≤ B := by
  intro n
  induction n with
  | zero => intro _; exact Nat.zero_le _
  | succ n ih =>
    intro h
    show (if f n ≤ ag_mx f n then ag_mx f n else f n) ≤ B
    by_cases c : f n ≤ ag_mx f n
    · rw [if_pos c]; exact ih (fun i hi => h i (by omega))
    · rw [if_neg c]; exact h n (by omega)
theorem ag_mx_ex {f : Nat → Nat} : ∀ n, 0 < ag_mx f n → ∃ i, i < n ∧ f i = ag_mx f n := by
  intro n
  induction n with
  | zero => intro h; exact absurd h (Nat.lt_irrefl 0)
  | succ n ih =>
    intro h
    by_cases c : f n ≤ ag_mx f n
    · have e : ag_mx f (n + 1) = ag_mx f n := by
        show (if f n ≤ ag_mx f n then ag_mx f n else f n) = _
        rw [if_pos c]
      rw [e] at h ⊢
      obtain ⟨i, hi, he⟩ := ih h
      exact ⟨i, by omega, he⟩
    · have e : ag_mx f (n + 1) = f n := by
        show (if f n ≤ ag_mx f n then ag_mx f n else f n) = _
        rw [if_neg c]
      exact ⟨n, by omega, e.symm⟩
theorem ag_sm_le {f : Nat → Nat} {B : Nat} : ∀ n, (∀ i, i < n → f i ≤ B) → ag_sm f n ≤ n * B := by
  intro n
  induction n with
  | zero => intro _; exact Nat.zero_le _
  | succ n ih =>
    intro h
    have h1 := ih (fun i hi => h i (by omega))
    have h2 := h n (by omega)
    show ag_sm f n + f n ≤ (n + 1) * B
    rw [Nat.succ_mul]
    omega
theorem ag_sm_add {f f' e : Nat → Nat} : ∀ n, (∀ i, i < n → f i ≤ f' i + e i) → ag_sm f n ≤ ag_sm f' n + ag_sm e n := by
  intro n
  induction n with
  | zero => intro _; exact Nat.zero_le _
  | succ n ih =>
    intro h
    have h1 := ih (fun i hi => h i (by omega))
    have h2 := h n (by omega)
    show ag_sm f n + f n ≤ (ag_sm f' n + f' n) + (ag_sm e n + e n)
    omega
theorem ag_sm_ge {f : Nat → Nat} : ∀ n i, i < n → f i ≤ ag_sm f n := by
  intro n
  induction n with
  | zero => intro i hi; omega
  | succ n ih =>
    intro i hi
    show f i ≤ ag_sm f n + f n
    by_cases e : i = n
    · rw [e]; omega
    · have := ih i (by omega)
      omega
/-- guess, price and steps of a group of k with goals q -/
noncomputable def ag_hv (T : Nat → Int32) (q : Nat → Nat) (s i : Nat) : Nat := ag_dd T (q i) (ag_ce s i)
noncomputable def ag_h (T : Nat → Int32) (k : Nat) (q : Nat → Nat) (ef : Int32) (s : Nat) : Nat :=
  if ag_mx (ag_hv T q s) k = 1000000 then 1000000 else if ef = 0 then ag_mx (ag_hv T q s) k else ag_sm (ag_hv T q s) k
def ag_mv (s s' i : Nat) : Nat := if ag_ce s' i = ag_ce s i then 0 else 1
def ag_wt (k : Nat) (ef : Int32) (s s' : Nat) : Nat := if ef = 0 then 1 else ag_sm (ag_mv s s') k
theorem ag_wt_le {k : Nat} {ef : Int32} (hk : 1 ≤ k) (s s' : Nat) : ag_wt k ef s s' ≤ k := by
  unfold ag_wt
  by_cases c : ef = 0
  · rw [if_pos c]; exact hk
  · rw [if_neg c]
    have := ag_sm_le (f := ag_mv s s') (B := 1) k (fun i _ => by
      unfold ag_mv
      by_cases e : ag_ce s' i = ag_ce s i
      · rw [if_pos e]; omega
      · rw [if_neg e]; omega)
    omega
theorem ag_wt_ge {T : Nat → Int32} (hT : ag_TOK T) {k : Nat} (hk : k ≤ 3) {ef : Int32} {s s' : Nat} (h : ag_JJ T k s s') : 1 ≤ ag_wt k ef s s' := by
  unfold ag_wt
  by_cases c : ef = 0
  · rw [if_pos c]; omega
  · rw [if_neg c]
    obtain ⟨c, c1, c2, c3⟩ := h
    obtain ⟨i, hi, hn⟩ := ag_J1_ne hT hk c2 c1 c3
    have := ag_sm_ge (f := ag_mv s s') k i hi
    unfold ag_mv at this
    rw [if_neg hn] at this
    exact this
theorem ag_hv_lt (T : Nat → Int32) (q : Nat → Nat) (s i : Nat) : ag_hv T q s i ≤ 1000000 := ag_dd_lt (ag_ce_lt s i)
theorem ag_hv_fin {T : Nat → Int32} {q : Nat → Nat} {s i : Nat} (h : ag_hv T q s i ≠ 1000000) : ag_hv T q s i ≤ 11 := by
  rcases ag_dd_cases (T := T) (g := q i) (ag_ce_lt s i) with z | z
  · have := z.1
    unfold ag_hv
    omega
  · exact absurd z.1 h
theorem ag_h_fin {T : Nat → Int32} {k : Nat} {q : Nat → Nat} {ef : Int32} {s : Nat} (hk : k ≤ 3) (h : ag_h T k q ef s < 1000000) : (∀ i, i < k → ag_hv T q s i ≤ 11) ∧ ag_mx (ag_hv T q s) k ≤ 11 ∧ ag_h T k q ef s = if ef = 0 then ag_mx (ag_hv T q s) k else ag_sm (ag_hv T q s) k := by
  unfold ag_h at h ⊢
  by_cases c : ag_mx (ag_hv T q s) k = 1000000
  · rw [if_pos c] at h
    exact absurd h (by omega)
  · have l := ag_mx_le (f := ag_hv T q s) (B := 1000000) k (fun i _ => ag_hv_lt T q s i)
    have a : ∀ i, i < k → ag_hv T q s i ≤ 11 := fun i hi => by
      have := ag_mx_ge (f := ag_hv T q s) k i hi
      exact ag_hv_fin (by omega)
    refine ⟨a, ag_mx_le k a, ?_⟩
    rw [if_neg c]
theorem ag_h_of {T : Nat → Int32} {k : Nat} {q : Nat → Nat} {ef : Int32} {s : Nat} (a : ∀ i, i < k → ag_hv T q s i ≤ 11) : ag_h T k q ef s = if ef = 0 then ag_mx (ag_hv T q s) k else ag_sm (ag_hv T q s) k := by
  unfold ag_h
  have := ag_mx_le k a
  rw [if_neg (by omega)]
theorem ag_h_small {T : Nat → Int32} {k : Nat} {q : Nat → Nat} {ef : Int32} {s : Nat} (hk : k ≤ 3) (a : ∀ i, i < k → ag_hv T q s i ≤ 11) : ag_h T k q ef s ≤ 33 := by
  rw [ag_h_of a]
  have h1 := ag_mx_le k a
  have h2 := ag_sm_le k a
  by_cases c : ef = 0
  · rw [if_pos c]; omega
  · rw [if_neg c]; omega
theorem ag_hv_step {T : Nat → Int32} {q : Nat → Nat} {s s' i : Nat} (h : ag_ce s' i = ag_ce s i ∨ ag_E T (ag_ce s i) (ag_ce s' i)) (hf : ag_hv T q s' i ≤ 11) : ag_hv T q s i ≤ ag_hv T q s' i + ag_mv s s' i := by
  unfold ag_mv
  by_cases e : ag_ce s' i = ag_ce s i
  · rw [if_pos e]
    unfold ag_hv
    rw [e]
    omega
  · rw [if_neg e]
    rcases h with z | z
    · exact absurd z e
    · unfold ag_hv at hf ⊢
      exact ag_dd_step (ag_ce_lt _ _) z (by omega)
theorem ag_con {T : Nat → Int32} (hT : ag_TOK T) {k : Nat} (hk : k ≤ 3) {q : Nat → Nat} {ef : Int32} : as_con (ag_JJ T k) (ag_wt k ef) (ag_h T k q ef) := by
  intro s s' hJ
  refine ⟨ag_wt_ge hT hk hJ, fun hf => ?_⟩
  obtain ⟨f1, f2, f3⟩ := ag_h_fin hk hf
  have hC := ag_JJ_C hJ
  have st : ∀ i, i < k → ag_hv T q s i ≤ ag_hv T q s' i + ag_mv s s' i := fun i hi => ag_hv_step (hC.2.1 i hi) (f1 i hi)
  have m1 : ∀ i, ag_mv s s' i ≤ 1 := fun i => by
    unfold ag_mv
    by_cases e : ag_ce s' i = ag_ce s i
    · rw [if_pos e]; omega
    · rw [if_neg e]; omega
  have a : ∀ i, i < k → ag_hv T q s i ≤ 11 := fun i hi => by
    have h1 := st i hi
    have h2 := f1 i hi
    have h3 := m1 i
    exact ag_hv_fin (by omega)
  have h33 := ag_h_small (ef := ef) hk a
  refine ⟨by omega, ?_⟩
  rw [f3, ag_h_of a]
  unfold ag_wt
  by_cases c : ef = 0
  · rw [if_pos c, if_pos c, if_pos c]
    refine ag_mx_le k (fun i hi => ?_)
    have h1 := st i hi
    have h2 := ag_mx_ge (f := ag_hv T q s') k i hi
    have h3 := m1 i
    omega
  · rw [if_neg c, if_neg c, if_neg c]
    have := ag_sm_add k st
    omega
theorem ag_h_goal {T : Nat → Int32} {k : Nat} {q : Nat → Nat} {ef : Int32} {s : Nat} (hk : k ≤ 3) (h : ∀ i, i < k → ag_ce s i = q i) : ag_h T k q ef s = 0 := by
  have a : ∀ i, i < k → ag_hv T q s i ≤ 0 := fun i hi => by
    unfold ag_hv
    rw [h i hi, ag_dd_self]
    exact Nat.le_refl _
  rw [ag_h_of (fun i hi => by have := a i hi; omega)]
  have h1 := ag_mx_le k a
  have h2 := ag_sm_le k a
  by_cases c : ef = 0
  · rw [if_pos c]; omega
  · rw [if_neg c]; omega
end
section
theorem ag_i4 (c i : Nat) : (4 * nI c) + nI i = nI (4 * c + i) := by
  rw [show (4 : Int32) = nI 4 from rfl, pk_mul, nI_add]
theorem ag_i12 (c i : Nat) : (12 * nI c) + nI i = nI (12 * c + i) := by
  rw [show (12 : Int32) = nI 12 from rfl, pk_mul, nI_add]
/-- the cell beside a cell -/
def ag_bs (c d : Nat) : Option Nat :=
  if d = 0 then (if c / 4 ≤ 0 then none else some (c - 4))
  else if d = 1 then (if 3 ≤ c % 4 then none else some (c + 1))
  else if d = 2 then (if 2 ≤ c / 4 then none else some (c + 4))
  else (if c % 4 ≤ 0 then none else some (c - 1))
def ag_oI : Option Nat → Int32
  | none => -1
  | some o => nI o
theorem ag_beside {post : Int32 → Prop} {c d : Nat} (hc : c < 12) (hd : d < 4) (H : post (ag_oI (ag_bs c d))) : wpX_beside post () (nI c) (nI d) := by
  unfold wpX_beside
  refine ⟨by decide, nm_r (pk_div (a := c) (d := 4) (by omega) (by omega) (by omega)) ⟨by decide, nm_r (pk_rem (a := c) (d := 4) (by omega) (by omega) (by omega)) ?_⟩⟩
  have h4 : d = 0 ∨ d = 1 ∨ d = 2 ∨ d = 3 := by omega
  rcases h4 with z | z | z | z <;> subst z
  · have H0 : post (ag_oI (if c / 4 ≤ 0 then none else some (c - 4))) := H
    refine br_f (by decide) (br_f (by decide) (br_t (by decide) (pk_le (c / 4) 0 (fun y => ?_) (fun y => ?_))))
    · rw [if_pos y] at H0
      exact H0
    · rw [if_neg (by omega)] at H0
      rw [show (4 : Int32) = nI 4 from rfl, pk_sub (by omega)]
      exact H0
  · have H0 : post (ag_oI (if 3 ≤ c % 4 then none else some (c + 1))) := H
    refine br_f (by decide) (br_f (by decide) (br_f (by decide) (br_t (by decide) (pk_le 3 (c % 4) (fun y => ?_) (fun y => ?_)))))
    · rw [if_pos y] at H0
      exact H0
    · rw [if_neg (by omega)] at H0
      rw [nI_1]
      exact H0
  · have H0 : post (ag_oI (if 2 ≤ c / 4 then none else some (c + 4))) := H
    refine br_f (by decide) (br_f (by decide) (br_f (by decide) (br_f (by decide) (br_t (by decide) (pk_le 2 (c / 4) (fun y => ?_) (fun y => ?_))))))
    · rw [if_pos y] at H0
      exact H0
    · rw [if_neg (by omega)] at H0
      rw [show (4 : Int32) = nI 4 from rfl, nI_add]
      exact H0
  · have H0 : post (ag_oI (if c % 4 ≤ 0 then none else some (c - 1))) := H
    refine br_f (by decide) (br_t (by decide) (pk_le (c % 4) 0 (fun y => ?_) (fun y => ?_)))
    · rw [if_pos y] at H0
      exact H0
    · rw [if_neg (by omega)] at H0
      rw [show (1 : Int32) = nI 1 from rfl, pk_sub (by omega)]
      exact H0
/-- no wall there -/
def ag_opn (w : Int32) (c : Nat) : Prop := ((w >>> (nI c &&& 31)) &&& 1) = 0
def ag_tb (w : Int32) (ways : Nat → Int32) (c d : Nat) : Int32 :=
  match ag_bs c d with
  | none => -1
  | some o => if ((w >>> (nI c &&& 31)) &&& 1) = 0 ∧ ((w >>> (nI o &&& 31)) &&& 1) = 0 ∧ ((ways c >>> (nI d &&& 31)) &&& 1) = 1 then nI o else -1
def ag_tab (w : Int32) (ways : Nat → Int32) (j : Nat) : Int32 := ag_tb w ways (j / 4) (j % 4)
theorem ag_tab_i {w : Int32} {ways : Nat → Int32} {c d : Nat} (hd : d < 4) : ag_tab w ways (4 * c + d) = ag_tb w ways c d := by
  unfold ag_tab
  rw [show (4 * c + d) / 4 = c by omega, show (4 * c + d) % 4 = d by omega]
theorem ag_bs_ok {c d o : Nat} (hc : c < 12) (h : ag_bs c d = some o) : o < 12 ∧ o ≠ c := by
  unfold ag_bs at h
  by_cases d0 : d = 0
  · rw [if_pos d0] at h
    by_cases y : c / 4 ≤ 0
    · rw [if_pos y] at h
      exact absurd h (by simp)
    · rw [if_neg y] at h
      have := Option.some.inj h
      omega
  · rw [if_neg d0] at h
    by_cases d1 : d = 1
    · rw [if_pos d1] at h
      by_cases y : 3 ≤ c % 4
      · rw [if_pos y] at h
        exact absurd h (by simp)
      · rw [if_neg y] at h
        have := Option.some.inj h
        omega
    · rw [if_neg d1] at h
      by_cases d2 : d = 2
      · rw [if_pos d2] at h
        by_cases y : 2 ≤ c / 4
        · rw [if_pos y] at h
          exact absurd h (by simp)
        · rw [if_neg y] at h
          have := Option.some.inj h
          omega
      · rw [if_neg d2] at h
        by_cases y : c % 4 ≤ 0
        · rw [if_pos y] at h
          exact absurd h (by simp)
        · rw [if_neg y] at h
          have := Option.some.inj h
          omega
theorem ag_tab_ok (w : Int32) (ways : Nat → Int32) : ag_TOK (ag_tab w ways) := by
  intro c d hc hd
  rw [ag_tab_i hd]
  unfold ag_tb
  cases h : ag_bs c d with
  | none => exact Or.inl rfl
  | some o =>
    obtain ⟨o1, o2⟩ := ag_bs_ok hc h
    dsimp only
    by_cases z : ((w >>> (nI c &&& 31)) &&& 1) = 0 ∧ ((w >>> (nI o &&& 31)) &&& 1) = 0 ∧ ((ways c >>> (nI d &&& 31)) &&& 1) = 1
    · rw [if_pos z]
      exact Or.inr ⟨o, o1, o2, rfl⟩
    · rw [if_neg z]
      exact Or.inl rfl
theorem ag_tab_opn {w : Int32} {ways : Nat → Int32} {c c' : Nat} (hc : c < 12) (h : ag_E (ag_tab w ways) c c') : ag_opn w c ∧ ag_opn w c' := by
  obtain ⟨h1, d, hd, h2⟩ := h
  rw [ag_tab_i hd] at h2
  unfold ag_tb at h2
  cases h : ag_bs c d with
  | none =>
    rw [h] at h2
    exact absurd h2.symm (ag_neg1 (by omega))
  | some o =>
    obtain ⟨o1, o2⟩ := ag_bs_ok hc h
    rw [h] at h2
    dsimp only at h2
    by_cases z : ((w >>> (nI c &&& 31)) &&& 1) = 0 ∧ ((w >>> (nI o &&& 31)) &&& 1) = 0 ∧ ((ways c >>> (nI d &&& 31)) &&& 1) = 1
    · rw [if_pos z] at h2
      have e := (nI_eq (by omega) (by omega)).mp h2
      subst e
      exact ⟨z.1, z.2.1⟩
    · rw [if_neg z] at h2
      exact absurd h2.symm (ag_neg1 (by omega))
theorem ag_fill {f s : Nat → Int32} {i k : Nat} {x : Int32} (hk : k = i) (h : ∀ j, j < i → s j = f j) (hx : x = f i) : ∀ j, j < i + 1 → upd s k x j = f j := by
  intro j hj
  rw [hk]
  by_cases e : j = i
  · rw [e, pk_us, hx]
  · rw [pk_un e]
    exact h j (by omega)
section
variable {wl pd ct ef be pf ps tn : Int32} {a1 a2 a3 a4 a5 a6 a7 a8 a9 a10 a11 a12 a13 a14 a15 a16 a17 a18 a19 a20 a21 : Nat → Int32}
theorem ag_lay10 {post : St1 → Prop} {J2 : Int32 → (Nat → Int32) → (Nat → Int32) → (Nat → Int32) → (Nat → Int32) → (Nat → Int32) → (Nat → Int32) → (Nat → Int32) → (Nat → Int32) → (Nat → Int32) → (Nat → Int32) → (Nat → Int32) → (Nat → Int32) → (Nat → Int32) → (Nat → Int32) → (Nat → Int32) → (Nat → Int32) → (Nat → Int32) → (Nat → Int32) → (Nat → Int32) → (Nat → Int32) → (Nat → Int32) → Prop}
    {c : Nat} (hc : c < 12) (hb : ∀ j, j < 4 * c → a4 j = ag_tab wl a1 j) (H : ∀ b, (∀ j, j < 4 * (c + 1) → b j = ag_tab wl a1 j) → J2 (nI (c + 1)) a1 a2 a3 b a5 a6 a7 a8 a9 a10 a11 a12 a13 a14 a15 a16 a17 a18 a19 a20 a21) : ∃ n, wX_laySteps_10 post J2 (nI c) wl pd ct ef be pf ps tn n 0 a1 a2 a3 a4 a5 a6 a7 a8 a9 a10 a11 a12 a13 a14 a15 a16 a17 a18 a19 a20 a21 := by
  refine pk_loop (fun n i s => wX_laySteps_10 post J2 (nI c) wl pd ct ef be pf ps tn n (nI i) a1 a2 a3 s a5 a6 a7 a8 a9 a10 a11 a12 a13 a14 a15 a16 a17 a18 a19 a20 a21) (fun i s => ∀ j, j < 4 * c + i → s j = ag_tab wl a1 j) 4 0 a4 (by omega) hb ?_ ?_
  · intro n s h
    exact pk_le 4 4 (fun _ => nm_r (nI_1 c) (H s h)) (fun z => absurd z (by omega))
  · intro n i s hi h hw
    have st0 : ∀ r : Int32, ag_tb wl a1 c i = -1 → wX_laySteps_60 post J2 (wX_laySteps_10 post J2 (nI c) wl pd ct ef be pf ps tn n) (nI c) (nI i) r 0 wl pd ct ef be pf ps tn a1 a2 a3 s a5 a6 a7 a8 a9 a10 a11 a12 a13 a14 a15 a16 a17 a18 a19 a20 a21 := by
      intro r e
      refine br_t rfl ⟨pk_in (4 * c + i) 48 (by omega) (ag_i4 c i), nm_e (nm_r (nI_1 i) (hw _ ?_))⟩
      refine ag_fill (i := 4 * c + i) (by rw [ag_i4, nI_clamp (by omega)]) h ?_
      rw [ag_tab_i hi, e]
    have st1 : ∀ r : Int32, ag_tb wl a1 c i = r → wX_laySteps_60 post J2 (wX_laySteps_10 post J2 (nI c) wl pd ct ef be pf ps tn n) (nI c) (nI i) r 1 wl pd ct ef be pf ps tn a1 a2 a3 s a5 a6 a7 a8 a9 a10 a11 a12 a13 a14 a15 a16 a17 a18 a19 a20 a21 := by
      intro r e
      refine br_f (by decide) ⟨pk_in (4 * c + i) 48 (by omega) (ag_i4 c i), nm_e (nm_r (nI_1 i) (hw _ ?_))⟩
      refine ag_fill (i := 4 * c + i) (by rw [ag_i4, nI_clamp (by omega)]) h ?_
      rw [ag_tab_i hi, e]
    refine pk_le 4 i (fun z => absurd z (by omega)) (fun _ => ag_beside hc hi ?_)
    unfold ag_tb at st0 st1
    cases hb : ag_bs c i with
    | none =>
      rw [hb] at st0
      exact br_t (by decide) (st0 _ rfl)
    | some o =>
      obtain ⟨o1, o2⟩ := ag_bs_ok hc hb
      rw [hb] at st0 st1
      dsimp only at st0 st1
      refine br_f (nI_pos (by omega)) ?_
      refine br_c (fun y1 => br_f (by decide) ?_) (fun y1 => br_t rfl (st0 _ (if_neg (fun z => y1 z.1))))
      refine br_c (fun y2 => br_f (by decide) ⟨pk_in c 12 hc, ?_⟩) (fun y2 => br_t rfl (st0 _ (if_neg (fun z => y2 z.2.1))))
      rw [nI_clamp (show c < 2 ^ 31 by omega)]
      exact br_c (fun y3 => st1 _ (if_pos ⟨y1, y2, y3⟩)) (fun y3 => st0 _ (if_neg (fun z => y3 z.2.2)))
theorem ag_laySteps {post : St1 → Prop} (H : ∀ b, (∀ j, j < 48 → b j = ag_tab wl a1 j) → post (wl, pd, ct, ef, be, pf, ps, tn, a1, a2, a3, b, a5, a6, a7, a8, a9, a10, a11, a12, a13, a14, a15, a16, a17, a18, a19, a20, a21)) : wpX_laySteps post (wl, pd, ct, ef, be, pf, ps, tn, a1, a2, a3, a4, a5, a6, a7, a8, a9, a10, a11, a12, a13, a14, a15, a16, a17, a18, a19, a20, a21) := by
  refine pk_loop (fun n i s => wX_laySteps_2 post wl pd ct ef be pf ps tn n (nI i) a1 a2 a3 s a5 a6 a7 a8 a9 a10 a11 a12 a13 a14 a15 a16 a17 a18 a19 a20 a21) (fun i s => ∀ j, j < 4 * i → s j = ag_tab wl a1 j) 12 0 a4 (by omega) (fun j hj => absurd hj (by omega)) ?_ ?_
  · intro n s h
    exact pk_le 12 12 (fun _ => H s h) (fun z => absurd z (by omega))
  · intro n i s hi h hw
    exact pk_le 12 i (fun z => absurd z (by omega)) (fun _ => ag_lay10 hi h (fun b hb => hw b hb))
theorem ag_leadsTo {post : Int32 → Prop} {T : Nat → Int32} (hT : ag_TOK T) (h4 : ∀ j, j < 48 → a4 j = T j) {f : Nat → Nat} (h6 : ∀ c, c < 12 → a6 c = nI (f c)) (hf : ∀ c, c < 12 → f c ≤ 1000000) {c r : Nat} (hc : c < 12) (hr : r < 12)
    (H1 : (∃ c', ag_E T c c' ∧ f c' = r) → post 1) (H0 : (¬ ∃ c', ag_E T c c' ∧ f c' = r) → post 0) : wpX_leadsTo post (wl, pd, ct, ef, be, pf, ps, tn, a1, a2, a3, a4, a5, a6, a7, a8, a9, a10, a11, a12, a13, a14, a15, a16, a17, a18, a19, a20, a21) (nI c) (nI r) := by
  refine pk_loop (σ := Unit) (fun n i _ => wX_leadsTo_2 post (nI c) (nI r) wl pd ct ef be pf ps tn a1 a2 a3 a4 a5 a6 a7 a8 a9 a10 a11 a12 a13 a14 a15 a16 a17 a18 a19 a20 a21 n (nI i)) (fun i _ => ∀ d, d < i → ∀ c', c' < 12 → T (4 * c + d) = nI c' → f c' ≠ r) 4 0 () (by omega) (fun d hd => absurd hd (by omega)) ?_ ?_
  · intro n _ h
    exact pk_le 4 4 (fun _ => H0 (fun ⟨c', ⟨hc', d, hd, e⟩, e2⟩ => h d hd c' hc' e e2)) (fun z => absurd z (by omega))
  · intro n i _ hi h hw
    refine pk_le 4 i (fun z => absurd z (by omega)) (fun _ => ⟨pk_in (4 * c + i) 48 (by omega) (ag_i4 c i), ?_⟩)
    have he : a4 ((4 * nI c) + nI i).toNatClampNeg = T (4 * c + i) := by rw [ag_i4, nI_clamp (by omega), h4 _ (by omega)]
    rcases hT c i hc hi with z | ⟨c', hc', hn, z⟩
    · refine nm_r (he.trans z) (br_t (by decide) (nm_r (nI_1 i) (hw () (fun d hd x hx e => ?_))))
      by_cases y : d = i
      · rw [y, z] at e
        exact absurd e.symm (ag_neg1 (by omega))
      · exact h d (by omega) x hx e
    · refine nm_r (he.trans z) (br_f (nI_pos (by omega)) ⟨pk_in c' 12 hc', ?_⟩)
      refine pk_eq (f c') r (fun y => H1 ⟨c', ⟨hc', i, hi, z⟩, y⟩) (fun y => nm_r (nI_1 i) (hw () (fun d hd x hx e => ?_))) (by rw [nI_clamp (by omega)]; exact h6 c' hc') rfl (by have := hf c' hc'; omega) (by omega)
      by_cases w : d = i
      · rw [w, z] at e
        have := (nI_eq (by omega) (by omega)).mp e
        rw [← this]
        exact y
      · exact h d (by omega) x hx e
def ag_cut (r x : Nat) : Nat := if x ≤ r then x else 1000000
theorem ag_fd41 {post : St1 → Prop} {J : Int32 → (Nat → Int32) → (Nat → Int32) → (Nat → Int32) → (Nat → Int32) → (Nat → Int32) → (Nat → Int32) → (Nat → Int32) → (Nat → Int32) → (Nat → Int32) → (Nat → Int32) → (Nat → Int32) → (Nat → Int32) → (Nat → Int32) → (Nat → Int32) → (Nat → Int32) → (Nat → Int32) → (Nat → Int32) → (Nat → Int32) → (Nat → Int32) → (Nat → Int32) → (Nat → Int32) → Prop}
    {T : Nat → Int32} (hT : ag_TOK T) (h4 : ∀ j, j < 48 → a4 j = T j) {g r : Nat} (hr : r < 11) (h6 : ∀ c, c < 12 → a6 c = nI (ag_cut r (ag_dd T g c)))
    (H : ∀ b, (∀ c, c < 12 → b c = nI (ag_cut (r + 1) (ag_dd T g c))) → J (nI (r + 1 + 1)) a1 a2 a3 a4 a5 b a7 a8 a9 a10 a11 a12 a13 a14 a15 a16 a17 a18 a19 a20 a21) : ∃ n, wX_findDistances_41 post J (nI (r + 1)) wl pd ct ef be pf ps tn n 0 a1 a2 a3 a4 a5 a6 a7 a8 a9 a10 a11 a12 a13 a14 a15 a16 a17 a18 a19 a20 a21 := by
  refine pk_loop (fun n i s => wX_findDistances_41 post J (nI (r + 1)) wl pd ct ef be pf ps tn n (nI i) a1 a2 a3 a4 a5 s a7 a8 a9 a10 a11 a12 a13 a14 a15 a16 a17 a18 a19 a20 a21) (fun i s => ∀ c, c < 12 → s c = nI (if c < i then ag_cut (r + 1) (ag_dd T g c) else ag_cut r (ag_dd T g c))) 12 0 a6 (by omega) (fun c hc => by rw [if_neg (by omega)]; exact h6 c hc) ?_ ?_
  · intro n s h
    refine pk_le 12 12 (fun _ => nm_r (nI_1 (r + 1)) (H s (fun c hc => ?_))) (fun z => absurd z (by omega))
    rw [h c hc, if_pos hc]
  · intro n i s hi h hw
    refine pk_le 12 i (fun z => absurd z (by omega)) (fun _ => ⟨pk_in i 12 hi, ?_⟩)
    have hs := h i hi
    rw [if_neg (by omega)] at hs
    have keep : ag_cut (r + 1) (ag_dd T g i) = ag_cut r (ag_dd T g i) → ∀ c, c < 12 → s c = nI (if c < i + 1 then ag_cut (r + 1) (ag_dd T g c) else ag_cut r (ag_dd T g c)) := by
      intro e c hc
      rw [h c hc]
      by_cases y : c = i
      · rw [y, if_neg (by omega), if_pos (by omega), e]
      · by_cases w : c < i
        · rw [if_pos w, if_pos (by omega)]
        · rw [if_neg w, if_neg (by omega)]
    have hd := ag_dd_lt (T := T) (g := g) hi
    refine pk_eq (ag_cut r (ag_dd T g i)) 1000000 (fun y => ?_) (fun y => nm_r (nI_1 i) (hw s (keep ?_))) (by rw [nI_clamp (by omega)]; exact hs) rfl (by unfold ag_cut; by_cases w : ag_dd T g i ≤ r; rw [if_pos w]; omega; rw [if_neg w]; omega) (by omega)
    · have yr : ¬ ag_dd T g i ≤ r := fun w => by
        unfold ag_cut at y
        rw [if_pos w] at y
        omega
      have fr : ∀ c', c' < 12 → ((if c' < i then ag_cut (r + 1) (ag_dd T g c') else ag_cut r (ag_dd T g c')) = r ↔ ag_dd T g c' = r) := by
        intro c' hc'
        unfold ag_cut
        by_cases w : c' < i
        · rw [if_pos w]
          by_cases v : ag_dd T g c' ≤ r + 1
          · rw [if_pos v]
          · rw [if_neg v]
            omega
        · rw [if_neg w]
          by_cases v : ag_dd T g c' ≤ r
          · rw [if_pos v]
          · rw [if_neg v]
            omega
      rw [nI_pred]
      refine ag_leadsTo hT h4 (f := fun c => if c < i then ag_cut (r + 1) (ag_dd T g c) else ag_cut r (ag_dd T g c)) h (fun c hc => ?_) hi (by omega) (fun w => ?_) (fun w => ?_)
      · have := ag_dd_lt (T := T) (g := g) hc
        unfold ag_cut
        by_cases v : c < i
        · rw [if_pos v]
          by_cases u : ag_dd T g c ≤ r + 1
          · rw [if_pos u]; omega
          · rw [if_neg u]; omega
        · rw [if_neg v]
          by_cases u : ag_dd T g c ≤ r
          · rw [if_pos u]; omega
          · rw [if_neg u]; omega
      · obtain ⟨c', e1, e2⟩ := w
        have e3 := (fr c' e1.1).mp e2
        have e4 := ag_dd_step (g := g) hi e1 (by omega)
        refine br_f (by decide) ⟨pk_in i 12 hi, nm_e (nm_r (nI_1 i) (hw _ (fun c hc => ?_)))⟩
        rw [nI_clamp (by omega)]
        by_cases v : c = i
        · rw [v, pk_us, if_pos (by omega)]
          unfold ag_cut
          rw [if_pos (by omega)]
          exact congrArg nI (by omega)
        · rw [pk_un v, h c hc]
          by_cases u : c < i
          · rw [if_pos u, if_pos (by omega)]
          · rw [if_neg u, if_neg (by omega)]
      · refine br_t rfl (nm_r (nI_1 i) (hw s (keep ?_)))
        unfold ag_cut
        rw [if_neg yr]
        by_cases v : ag_dd T g i ≤ r + 1
        · obtain ⟨c', e1, e2⟩ := ag_dd_pred (T := T) (g := g) (n := r) hi (by omega) (by omega)
          exact absurd ⟨c', e1, (fr c' e1.1).mpr e2⟩ w
        · rw [if_neg v]
    · unfold ag_cut at y ⊢
      by_cases w : ag_dd T g i ≤ r
      · rw [if_pos w, if_pos (by omega)]
      · rw [if_neg w] at y
        exact absurd rfl y
theorem ag_findDistances {post : St1 → Prop} {T : Nat → Int32} (hT : ag_TOK T) (h4 : ∀ j, j < 48 → a4 j = T j) {g : Nat} (hg : g < 12) (H : ∀ b, (∀ c, c < 12 → b c = nI (ag_dd T g c)) → post (wl, pd, ct, ef, be, pf, ps, tn, a1, a2, a3, a4, a5, b, a7, a8, a9, a10, a11, a12, a13, a14, a15, a16, a17, a18, a19, a20, a21)) : wpX_findDistances post (wl, pd, ct, ef, be, pf, ps, tn, a1, a2, a3, a4, a5, a6, a7, a8, a9, a10, a11, a12, a13, a14, a15, a16, a17, a18, a19, a20, a21) (nI g) := by
  refine pk_loop (fun n i s => wX_findDistances_2 post (nI g) wl pd ct ef be pf ps tn n (nI i) a1 a2 a3 a4 a5 s a7 a8 a9 a10 a11 a12 a13 a14 a15 a16 a17 a18 a19 a20 a21) (fun i s => ∀ c, c < i → s c = nI (ag_cut 0 (ag_dd T g c))) 12 0 a6 (by omega) (fun c hc => absurd hc (by omega)) ?_ ?_
  · intro n s h
    refine pk_le 12 12 (fun _ => ?_) (fun z => absurd z (by omega))
    refine pk_loop (fun n i s => wX_findDistances_33 post wl pd ct ef be pf ps tn n (nI i) a1 a2 a3 a4 a5 s a7 a8 a9 a10 a11 a12 a13 a14 a15 a16 a17 a18 a19 a20 a21) (fun i s => 1 ≤ i ∧ ∀ c, c < 12 → s c = nI (ag_cut (i - 1) (ag_dd T g c))) 12 1 s (by omega) ⟨by omega, h⟩ ?_ ?_
    · intro n s h
      refine pk_le 12 12 (fun _ => H s (fun c hc => ?_)) (fun z => absurd z (by omega))
      rw [h.2 c hc]
      unfold ag_cut
      rcases ag_dd_cases (T := T) (g := g) hc with z | z
      · rw [if_pos (by omega)]
      · rw [if_neg (by omega), z.1]
    · intro n i s hi h hw
      cases i with
      | zero => exact absurd h.1 (by omega)
      | succ r =>
        exact pk_le 12 (r + 1) (fun z => absurd z (by omega)) (fun _ => ag_fd41 hT h4 (by omega) h.2 (fun b hb => hw b ⟨by omega, hb⟩))
  · intro n i s hi h hw
    refine pk_le 12 i (fun z => absurd z (by omega)) (fun _ => ?_)
    refine pk_eq i g (fun y => ⟨pk_in i 12 hi, nm_e (nm_r (nI_1 i) (hw _ ?_))⟩) (fun y => ⟨pk_in i 12 hi, nm_e (nm_r (nI_1 i) (hw _ ?_))⟩)
    · refine ag_fill (f := fun c => nI (ag_cut 0 (ag_dd T g c))) (nI_clamp (by omega)) h ?_
      rw [y, ag_dd_self]
      rfl
    · refine ag_fill (f := fun c => nI (ag_cut 0 (ag_dd T g c))) (nI_clamp (by omega)) h ?_
      have : ag_dd T g i ≠ 0 := fun z => y (ag_dd_0 hi z)
      unfold ag_cut
      rw [if_neg (by omega)]
      rfl
end
end
section
/-- walker w is in team t -/
abbrev ag_bt (t w : Nat) : Prop := t / 2 ^ w % 2 = 1
theorem ag_bit : ∀ t, t < 8 → ∀ w, w < 3 → (((nI t >>> (nI w &&& 31)) &&& 1) = 1 ↔ ag_bt t w) := by decide +kernel
theorem ag_bit0 : ∀ t, t < 8 → ∀ w, w < 3 → (((nI t >>> (nI w &&& 31)) &&& 1) = 0 ↔ ¬ ag_bt t w) := by decide +kernel
section
variable {wl pd ct ef be pf ps tn : Int32} {a1 a2 a3 a4 a5 a6 a7 a8 a9 a10 a11 a12 a13 a14 a15 a16 a17 a18 a19 a20 a21 : Nat → Int32}
theorem ag_fgd32 {post : St1 → Prop} {J : Int32 → Int32 → Int32 → Int32 → Int32 → Int32 → Int32 → Int32 → Int32 → (Nat → Int32) → (Nat → Int32) → (Nat → Int32) → (Nat → Int32) → (Nat → Int32) → (Nat → Int32) → (Nat → Int32) → (Nat → Int32) → (Nat → Int32) → (Nat → Int32) → (Nat → Int32) → (Nat → Int32) → (Nat → Int32) → (Nat → Int32) → (Nat → Int32) → (Nat → Int32) → (Nat → Int32) → (Nat → Int32) → (Nat → Int32) → (Nat → Int32) → (Nat → Int32) → Prop} {x1 : Int32}
    {w : Nat} (hw3 : w < 3) (H : ∀ b, (∀ c, c < 12 → b (12 * w + c) = a6 c) → (∀ j, j < 12 * w → b j = a5 j) → J (nI (w + 1)) wl pd ct ef be pf ps tn a1 a2 a3 a4 b a6 a7 a8 a9 a10 a11 a12 a13 a14 a15 a16 a17 a18 a19 a20 a21) : ∃ n, wX_findGoalDistances_32 post J x1 (nI w) wl pd ct ef be pf ps tn n 0 a1 a2 a3 a4 a5 a6 a7 a8 a9 a10 a11 a12 a13 a14 a15 a16 a17 a18 a19 a20 a21 := by
  refine pk_loop (fun n i s => wX_findGoalDistances_32 post J x1 (nI w) wl pd ct ef be pf ps tn n (nI i) a1 a2 a3 a4 s a6 a7 a8 a9 a10 a11 a12 a13 a14 a15 a16 a17 a18 a19 a20 a21) (fun i s => (∀ c, c < i → s (12 * w + c) = a6 c) ∧ ∀ j, j < 12 * w → s j = a5 j) 12 0 a5 (by omega) ⟨fun c hc => absurd hc (by omega), fun _ _ => rfl⟩ ?_ ?_
  · intro n s h
    exact pk_le 12 12 (fun _ => nm_r (nI_1 w) (H s h.1 h.2)) (fun z => absurd z (by omega))
  · intro n i s hi h hw
    refine pk_le 12 i (fun z => absurd z (by omega)) (fun _ => ⟨pk_in i 12 hi, pk_in (12 * w + i) 36 (by omega) (ag_i12 w i), nm_e (nm_r (nI_1 i) (hw _ ⟨fun c hc => ?_, fun j hj => ?_⟩))⟩)
    · rw [ag_i12, nI_clamp (by omega), nI_clamp (by omega)]
      by_cases e : c = i
      · rw [e, pk_us]
      · rw [pk_un (by omega)]
        exact h.1 c (by omega)
    · rw [ag_i12, nI_clamp (by omega), pk_un (by omega)]
      exact h.2 j hj
theorem ag_findGoalDistances {post : St1 → Prop} {t : Nat} (ht : t < 8) {q : Nat → Nat} (hq : ∀ w, w < 3 → a3 w = nI (q w) ∧ q w < 12)
    (H : ∀ b4 b5 b6, (∀ j, j < 48 → b4 j = ag_tab wl a1 j) → (∀ w, w < 3 → ag_bt t w → ∀ c, c < 12 → b5 (12 * w + c) = nI (ag_dd (ag_tab wl a1) (q w) c)) → post (wl, pd, ct, ef, be, pf, ps, tn, a1, a2, a3, b4, b5, b6, a7, a8, a9, a10, a11, a12, a13, a14, a15, a16, a17, a18, a19, a20, a21)) : wpX_findGoalDistances post (wl, pd, ct, ef, be, pf, ps, tn, a1, a2, a3, a4, a5, a6, a7, a8, a9, a10, a11, a12, a13, a14, a15, a16, a17, a18, a19, a20, a21) (nI t) := by
  refine ag_laySteps (fun b4 h4 => ?_)
  have key : ∃ n, (fun (n i : Nat) (s : (Nat → Int32) × (Nat → Int32)) => wX_findGoalDistances_6 post (nI t) n (nI i) wl pd ct ef be pf ps tn a1 a2 a3 b4 s.1 s.2 a7 a8 a9 a10 a11 a12 a13 a14 a15 a16 a17 a18 a19 a20 a21) n 0 (a5, a6) := by
    refine pk_loop (fun (n i : Nat) (s : (Nat → Int32) × (Nat → Int32)) => wX_findGoalDistances_6 post (nI t) n (nI i) wl pd ct ef be pf ps tn a1 a2 a3 b4 s.1 s.2 a7 a8 a9 a10 a11 a12 a13 a14 a15 a16 a17 a18 a19 a20 a21) (fun i s => ∀ w, w < i → ag_bt t w → ∀ c, c < 12 → s.1 (12 * w + c) = nI (ag_dd (ag_tab wl a1) (q w) c)) 3 0 (a5, a6) (by omega) (fun w hw => absurd hw (by omega)) ?_ ?_
    · intro n s h
      exact pk_le 3 3 (fun _ => H b4 s.1 s.2 h4 h) (fun z => absurd z (by omega))
    · intro n i s hi h hw
      refine pk_le 3 i (fun z => absurd z (by omega)) (fun _ => br_c (fun y => ⟨pk_in i 3 hi, ?_⟩) (fun y => nm_r (nI_1 i) (hw s (fun w hw' hb => ?_))))
      · rw [nI_clamp (show i < 2 ^ 31 by omega), (hq i hi).1]
        refine ag_findDistances (ag_tab_ok wl a1) h4 (hq i hi).2 (fun b6 h6 => ?_)
        refine ag_fgd32 hi (fun b5 g1 g2 => hw (b5, b6) (fun w hw' hb c hc => ?_))
        by_cases e : w = i
        · rw [e]
          exact (g1 c hc).trans (h6 c hc)
        · exact (g2 (12 * w + c) (by omega)).trans (h w (by omega) hb c hc)
      · by_cases e : w = i
        · rw [e] at hb
          exact absurd ((ag_bit t ht i hi).mpr hb) y
        · exact h w (by omega) hb
  exact key
theorem ag_distance {post : Int32 → St1 → Prop} (x y : Int32)
    (H1 : ∀ b4 b6 c d, c < 12 → d < 12 → x = nI c → y = nI d → ag_opn wl c → ag_opn wl d → post (if ag_dd (ag_tab wl a1) d c = 1000000 then -2 else nI (ag_dd (ag_tab wl a1) d c)) (wl, pd, ct, ef, be, pf, ps, tn, a1, a2, a3, b4, a5, b6, a7, a8, a9, a10, a11, a12, a13, a14, a15, a16, a17, a18, a19, a20, a21))
    (H0 : (¬ ∃ c d, c < 12 ∧ d < 12 ∧ x = nI c ∧ y = nI d ∧ ag_opn wl c ∧ ag_opn wl d) → post (-1) (wl, pd, ct, ef, be, pf, ps, tn, a1, a2, a3, a4, a5, a6, a7, a8, a9, a10, a11, a12, a13, a14, a15, a16, a17, a18, a19, a20, a21)) : wpX_distance post (wl, pd, ct, ef, be, pf, ps, tn, a1, a2, a3, a4, a5, a6, a7, a8, a9, a10, a11, a12, a13, a14, a15, a16, a17, a18, a19, a20, a21) x y := by
  have N : ∀ {x : Int32}, (∀ c, c < 12 → x ≠ nI c) → ∀ P : Int32 → Prop, P 0 → wpX_isCell P () x := by
    intro x hx P h0
    refine br_c (fun _ => h0) (fun h1 => br_c (fun _ => h0) (fun h2 => ?_))
    obtain ⟨j, hj, e⟩ := nI_of h1
    exfalso
    rw [e] at h2
    rcases Nat.lt_or_ge j 12 with z | z
    · exact hx j z e
    · exact h2 (nI_le z hj)
  have Y : ∀ {c : Nat}, c < 12 → ∀ P : Int32 → Prop, P 1 → wpX_isCell P () (nI c) := by
    intro c hc P h1
    exact br_f (nI_pos (by omega)) (br_f (nI_ge (b := 12) hc (by decide)) h1)
  unfold wpX_distance
  dsimp only
  by_cases hx : ∃ c, c < 12 ∧ x = nI c
  · obtain ⟨c, hc, ex⟩ := hx
    by_cases hy : ∃ d, d < 12 ∧ y = nI d
    · obtain ⟨d, hd, ey⟩ := hy
      rw [ex, ey]
      refine Y hc _ ?_
      refine br_f (by decide) ?_
      refine Y hd _ ?_
      refine br_f (by decide) ?_
      refine br_c (fun o1 => br_f (by decide) (br_c (fun o2 => br_f (by decide) ?_) (fun o2 => br_t rfl (H0 (fun ⟨c', d', h1, h2, h3, h4, h5, h6⟩ => ?_))))) (fun o1 => br_t rfl (H0 (fun ⟨c', d', h1, h2, h3, h4, h5, h6⟩ => ?_)))
      · refine ag_laySteps (fun b4 h4 => ?_)
        refine ag_findDistances (ag_tab_ok wl a1) h4 hd (fun b6 h6 => ?_)
        refine ⟨pk_in c 12 hc, ?_⟩
        have e6 : b6 (nI c).toNatClampNeg = nI (ag_dd (ag_tab wl a1) d c) := by rw [nI_clamp (by omega)]; exact h6 c hc
        have H := H1 b4 b6 c d hc hd ex ey o1 o2
        refine pk_eq (ag_dd (ag_tab wl a1) d c) 1000000 (fun z => ?_) (fun z => ⟨pk_in c 12 hc, ?_⟩) e6 rfl (by have := ag_dd_lt (T := ag_tab wl a1) (g := d) hc; omega) (by omega)
        · rw [if_pos z] at H
          exact H
        · rw [if_neg z] at H
          dsimp only
          rw [e6]
          exact H
      · rw [ey] at h4
        have := (nI_eq (by omega) (by omega)).mp h4
        subst this
        exact o2 h6
      · rw [ex] at h3
        have := (nI_eq (by omega) (by omega)).mp h3
        subst this
        exact o1 h5
    · rw [ex]
      refine Y hc _ ?_
      refine br_f (by decide) ?_
      refine N (fun d hd e => hy ⟨d, hd, e⟩) _ ?_
      exact br_t rfl (H0 (fun ⟨c', d', h1, h2, h3, h4, h5⟩ => hy ⟨d', h2, h4⟩))
  · refine N (fun d hd e => hx ⟨d, hd, e⟩) _ ?_
    exact br_t rfl (H0 (fun ⟨c', d', h1, h2, h3, h4⟩ => hx ⟨c', h1, h3⟩))
theorem ag_lengthAlone {post : Int32 → Prop} {w p : Nat} (hw : w < 3) (hp : p < 12) (h2 : a2 w = nI p) {r : Int32} (h5 : a5 (12 * w + p) = r) (H : post r) : wpX_lengthAlone post (wl, pd, ct, ef, be, pf, ps, tn, a1, a2, a3, a4, a5, a6, a7, a8, a9, a10, a11, a12, a13, a14, a15, a16, a17, a18, a19, a20, a21) (nI w) := by
  have e : (12 * nI w) + (a2 (nI w).toNatClampNeg) = nI (12 * w + p) := by rw [nI_clamp (by omega), h2, ag_i12]
  refine ⟨pk_in w 3 hw, pk_in (12 * w + p) 36 (by omega) e, ?_⟩
  rw [e, nI_clamp (by omega), h5]
  exact H
theorem ag_alone {post : Int32 → Prop} {t : Nat} (ht : t < 8) {p D : Nat → Nat} (hp : ∀ w, w < 3 → a2 w = nI (p w) ∧ p w < 12) (hD : ∀ w, w < 3 → ag_bt t w → a5 (12 * w + p w) = nI (D w) ∧ D w ≤ 1000000)
    (H : ∀ f : Nat → Nat, f = (fun w => if ag_bt t w then D w else 0) → post (if ag_mx f 3 = 1000000 then -2 else if ef = 0 then nI (ag_mx f 3) else nI (ag_sm f 3))) : wpX_alone post (wl, pd, ct, ef, be, pf, ps, tn, a1, a2, a3, a4, a5, a6, a7, a8, a9, a10, a11, a12, a13, a14, a15, a16, a17, a18, a19, a20, a21) (nI t) := by
  have H := H _ rfl
  have hf : ∀ w, w < 3 → (fun w => if ag_bt t w then D w else 0) w ≤ 1000000 := by
    intro w hw
    show (if ag_bt t w then D w else 0) ≤ 1000000
    by_cases c : ag_bt t w
    · rw [if_pos c]; exact (hD w hw c).2
    · rw [if_neg c]; omega
  have fin : ∀ i, i ≤ 3 → ag_mx (fun w => if ag_bt t w then D w else 0) i ≤ 1000000 ∧ ag_sm (fun w => if ag_bt t w then D w else 0) i ≤ 3 * 1000000 := by
    intro i hi
    refine ⟨ag_mx_le i (fun w hw => hf w (by omega)), ?_⟩
    exact Nat.le_trans (ag_sm_le (B := 1000000) i (fun w hw => hf w (by omega))) (Nat.mul_le_mul_right _ hi)
  refine pk_loop (σ := Unit) (fun n i _ => wX_alone_7 post (nI t) wl pd ct ef be pf ps tn a1 a2 a3 a4 a5 a6 a7 a8 a9 a10 a11 a12 a13 a14 a15 a16 a17 a18 a19 a20 a21 n (nI (ag_mx (fun w => if ag_bt t w then D w else 0) i)) (nI (ag_sm (fun w => if ag_bt t w then D w else 0) i)) (nI i)) (fun _ _ => True) 3 0 () (by omega) trivial ?_ ?_
  · intro n _ _
    refine pk_le 3 3 (fun _ => ?_) (fun z => absurd z (by omega))
    have := fin 3 (by omega)
    refine pk_eq (ag_mx (fun w => if ag_bt t w then D w else 0) 3) 1000000 (fun z => ?_) (fun z => br_c (fun e => ?_) (fun e => ?_))
    · rw [if_pos z] at H
      exact H
    · rw [if_neg z, if_pos e] at H
      exact H
    · rw [if_neg z, if_neg e] at H
      exact H
  · intro n i _ hi _ hw
    have hw := hw () trivial
    have hfi := fin i (by omega)
    refine pk_le 3 i (fun z => absurd z (by omega)) (fun _ => br_c (fun y => ?_) (fun y => nm_r (nI_1 i) ?_))
    · have y := (ag_bit t ht i hi).mp y
      refine ag_lengthAlone hi (hp i hi).2 (hp i hi).1 (hD i hi y).1 ?_
      have e1 : ag_sm (fun w => if ag_bt t w then D w else 0) (i + 1) = ag_sm (fun w => if ag_bt t w then D w else 0) i + D i := by
        show ag_sm _ i + (if ag_bt t i then D i else 0) = _
        rw [if_pos y]
      have e2 : ag_mx (fun w => if ag_bt t w then D w else 0) (i + 1) = if D i ≤ ag_mx (fun w => if ag_bt t w then D w else 0) i then ag_mx (fun w => if ag_bt t w then D w else 0) i else D i := by
        show (if (if ag_bt t i then D i else 0) ≤ ag_mx _ i then ag_mx _ i else (if ag_bt t i then D i else 0)) = _
        rw [if_pos y]
      rw [e1, e2] at hw
      refine pk_le (D i) (ag_mx (fun w => if ag_bt t w then D w else 0) i) (fun z => nm_r (nI_add _ _) (nm_r (nI_1 i) ?_)) (fun z => nm_r (nI_add _ _) (nm_r (nI_1 i) ?_)) rfl rfl (by have := (hD i hi y).2; omega) (by omega)
      · rw [if_pos z] at hw
        exact hw
      · rw [if_neg (by omega)] at hw
        exact hw
    · have y : ¬ ag_bt t i := fun z => y ((ag_bit t ht i hi).mpr z)
      have e1 : ag_sm (fun w => if ag_bt t w then D w else 0) (i + 1) = ag_sm (fun w => if ag_bt t w then D w else 0) i := by
        show ag_sm _ i + (if ag_bt t i then D i else 0) = _
        rw [if_neg y]
        rfl
      have e2 : ag_mx (fun w => if ag_bt t w then D w else 0) (i + 1) = ag_mx (fun w => if ag_bt t w then D w else 0) i := by
        show (if (if ag_bt t i then D i else 0) ≤ ag_mx _ i then ag_mx _ i else (if ag_bt t i then D i else 0)) = _
        rw [if_neg y, if_pos (Nat.zero_le _)]
      rw [e1, e2] at hw
      exact hw
/-- a step of a walker alone toward g -/
def ag_AS (T : Nat → Int32) (g c c' : Nat) : Prop := c' < 12 ∧ ((c' = c ∧ (ag_dd T g c = 0 ∨ ag_dd T g c = 1000000)) ∨ (ag_E T c c' ∧ ag_dd T g c = ag_dd T g c' + 1 ∧ ag_dd T g c < 1000000))
theorem ag_nextAlone {post : Int32 → Prop} {T : Nat → Int32} (hT : ag_TOK T) (h4 : ∀ j, j < 48 → a4 j = T j) {g w c : Nat} (hw3 : w < 3) (hc : c < 12) (h5 : ∀ c, c < 12 → a5 (12 * w + c) = nI (ag_dd T g c))
    (H : ∀ c', ag_AS T g c c' → post (nI c')) : wpX_nextAlone post (wl, pd, ct, ef, be, pf, ps, tn, a1, a2, a3, a4, a5, a6, a7, a8, a9, a10, a11, a12, a13, a14, a15, a16, a17, a18, a19, a20, a21) (nI w) (nI c) := by
  refine pk_loop (σ := Unit) (fun n i _ => wX_nextAlone_2 post (nI w) (nI c) wl pd ct ef be pf ps tn a1 a2 a3 a4 a5 a6 a7 a8 a9 a10 a11 a12 a13 a14 a15 a16 a17 a18 a19 a20 a21 n (nI i)) (fun i _ => ∀ d, d < i → ∀ x, x < 12 → T (4 * c + d) = nI x → ag_dd T g c ≤ ag_dd T g x) 4 0 () (by omega) (fun d hd => absurd hd (by omega)) ?_ ?_
  · intro n _ h
    refine pk_le 4 4 (fun _ => H c ⟨hc, Or.inl ⟨rfl, ?_⟩⟩) (fun z => absurd z (by omega))
    by_cases z : ag_dd T g c = 0
    · exact Or.inl z
    · rcases ag_dd_cases (T := T) (g := g) hc with y | y
      · obtain ⟨x, ⟨e1, d, hd, e2⟩, e3⟩ := ag_dd_pred (T := T) (g := g) (n := ag_dd T g c - 1) hc (by omega) (by omega)
        have := h d hd x e1 e2
        omega
      · exact Or.inr y.1
  · intro n i _ hi h hw
    refine pk_le 4 i (fun z => absurd z (by omega)) (fun _ => ⟨pk_in (4 * c + i) 48 (by omega) (ag_i4 c i), ?_⟩)
    have he : a4 ((4 * nI c) + nI i).toNatClampNeg = T (4 * c + i) := by rw [ag_i4, nI_clamp (by omega), h4 _ (by omega)]
    rcases hT c i hc hi with z | ⟨c', hc', hn, z⟩
    · refine nm_r (he.trans z) (br_t (by decide) (nm_r (nI_1 i) (hw () (fun d hd x hx e => ?_))))
      by_cases y : d = i
      · rw [y, z] at e
        exact absurd e.symm (ag_neg1 (by omega))
      · exact h d (by omega) x hx e
    · have l1 := ag_dd_lt (T := T) (g := g) hc
      have l2 := ag_dd_lt (T := T) (g := g) hc'
      refine nm_r (he.trans z) (br_f (nI_pos (by omega)) ⟨pk_in (12 * w + c') 36 (by omega) (ag_i12 w c'), pk_in (12 * w + c) 36 (by omega) (ag_i12 w c), ?_⟩)
      refine pk_le (ag_dd T g c) (ag_dd T g c') (fun y => nm_r (nI_1 i) (hw () (fun d hd x hx e => ?_))) (fun y => H c' ⟨hc', Or.inr ⟨⟨hc', i, hi, z⟩, ?_⟩⟩) (by rw [ag_i12, nI_clamp (by omega)]; exact h5 c hc) (by rw [ag_i12, nI_clamp (by omega)]; exact h5 c' hc') (by omega) (by omega)
      · by_cases v : d = i
        · rw [v, z] at e
          have := (nI_eq (by omega) (by omega)).mp e
          rw [← this]
          exact y
        · exact h d (by omega) x hx e
      · have := ag_dd_step (g := g) hc (⟨hc', i, hi, z⟩ : ag_E T c c') (by omega)
        have : ag_dd T g c ≠ 1000000 := fun v => by
          rcases ag_dd_cases (T := T) (g := g) hc' with u | u
          · omega
          · omega
        omega
end
/-- two walkers get in each other's way -/
def ag_meet (a b c d : Nat) : Prop := b = d ∨ (b = c ∧ d = a)
theorem ag_meetw {post : Int32 → Prop} {a b c d : Nat} (ha : a < 2 ^ 31) (hb : b < 2 ^ 31) (hc : c < 2 ^ 31) (hd : d < 2 ^ 31) (H1 : ag_meet a b c d → post 1) (H0 : ¬ ag_meet a b c d → post 0) : wpX_meet post () (nI a) (nI b) (nI c) (nI d) := by
  refine pk_eq b d (fun z => H1 (Or.inl z)) (fun z => pk_eq b c (fun y => pk_eq d a (fun x => H1 (Or.inr ⟨y, x⟩)) (fun x => H0 (fun v => ?_)) rfl rfl hd ha) (fun y => H0 (fun v => ?_)) rfl rfl hb hc) rfl rfl hb hd
  · rcases v with v | v
    · exact z v
    · exact x v.2
  · rcases v with v | v
    · exact z v
    · exact y v.1
end
section
theorem ag_shor : ∀ i, i < 3 → ∀ j, j < 3 → i ≠ j → ((1 : Int32) <<< (nI i &&& 31)) ||| ((1 : Int32) <<< (nI j &&& 31)) = nI (2 ^ i + 2 ^ j) := by decide +kernel
section
variable {wl pd ct ef be pf ps tn : Int32} {a1 a2 a3 a4 a5 a6 a7 a8 a9 a10 a11 a12 a13 a14 a15 a16 a17 a18 a19 a20 a21 : Nat → Int32}
theorem ag_cn27 {post : Int32 → Prop} {J : Int32 → Prop} {t : Nat} (ht : t < 8) {x2 x2' : Int32} (hx : x2 + 1 = x2') {i j : Nat} (hij : i < j) (hj : j < 3) {X Y : Nat → Nat} (h15 : ∀ w, w < 3 → ag_bt t w → a15 w = nI (X w) ∧ X w < 12) (h16 : ∀ w, w < 3 → ag_bt t w → a16 w = nI (Y w) ∧ Y w < 12)
    (H1 : ag_bt t i → ag_bt t j → ag_meet (X i) (Y i) (X j) (Y j) → post (nI (2 ^ i + 2 ^ j))) (H0 : ¬ (ag_bt t i ∧ ag_bt t j ∧ ag_meet (X i) (Y i) (X j) (Y j)) → J x2') : wX_clashNow_27 post J (nI t) x2 (nI i) (nI j) wl pd ct ef be pf ps tn a1 a2 a3 a4 a5 a6 a7 a8 a9 a10 a11 a12 a13 a14 a15 a16 a17 a18 a19 a20 a21 := by
  unfold wX_clashNow_27
  have hi : i < 3 := by omega
  refine br_c (fun b1 => br_c (fun b2 => ?_) (fun b2 => br_t rfl (nm_r hx (H0 (fun z => b2 ((ag_bit t ht j hj).mpr z.2.1)))))) (fun b1 => br_t rfl (nm_r hx (H0 (fun z => b1 ((ag_bit t ht i hi).mpr z.1)))))
  have b1 := (ag_bit t ht i hi).mp b1
  have b2 := (ag_bit t ht j hj).mp b2
  refine br_f (by decide) ⟨pk_in i 3 hi, pk_in i 3 hi, pk_in j 3 hj, pk_in j 3 hj, ?_⟩
  rw [nI_clamp (show i < 2 ^ 31 by omega), nI_clamp (show j < 2 ^ 31 by omega), (h15 i hi b1).1, (h16 i hi b1).1, (h15 j hj b2).1, (h16 j hj b2).1]
  have l1 := (h15 i hi b1).2
  have l2 := (h16 i hi b1).2
  have l3 := (h15 j hj b2).2
  have l4 := (h16 j hj b2).2
  refine ag_meetw (by omega) (by omega) (by omega) (by omega) (fun z => br_f (by decide) ?_) (fun z => br_t rfl (nm_r hx (H0 (fun y => z y.2.2))))
  rw [ag_shor i hi j hj (by omega)]
  exact H1 b1 b2 z
theorem ag_clashNow {post : Int32 → Prop} {t : Nat} (ht : t < 8) {X Y : Nat → Nat} (h15 : ∀ w, w < 3 → ag_bt t w → a15 w = nI (X w) ∧ X w < 12) (h16 : ∀ w, w < 3 → ag_bt t w → a16 w = nI (Y w) ∧ Y w < 12)
    (H1 : ∀ i j, i < j → j < 3 → ag_bt t i → ag_bt t j → ag_meet (X i) (Y i) (X j) (Y j) → post (nI (2 ^ i + 2 ^ j))) (H0 : (∀ i j, i < j → j < 3 → ag_bt t i → ag_bt t j → ¬ ag_meet (X i) (Y i) (X j) (Y j)) → post 0) : wpX_clashNow post (wl, pd, ct, ef, be, pf, ps, tn, a1, a2, a3, a4, a5, a6, a7, a8, a9, a10, a11, a12, a13, a14, a15, a16, a17, a18, a19, a20, a21) (nI t) := by
  refine ⟨4, br_f (by decide) (br_f (by decide) (br_t rfl ?_))⟩
  refine ag_cn27 (i := 0) (j := 1) ht (x2' := 1) rfl (by omega) (by omega) h15 h16 (H1 0 1 (by omega) (by omega)) (fun z0 => ?_)
  refine br_f (by decide) (br_f (by decide) (br_f (by decide) ?_))
  refine ag_cn27 (i := 0) (j := 2) ht (x2' := 2) rfl (by omega) (by omega) h15 h16 (H1 0 2 (by omega) (by omega)) (fun z1 => ?_)
  refine br_f (by decide) (br_t (by decide) (br_f (by decide) ?_))
  refine ag_cn27 (i := 1) (j := 2) ht (x2' := 3) rfl (by omega) (by omega) h15 h16 (H1 1 2 (by omega) (by omega)) (fun z2 => ?_)
  refine br_t (by decide) (H0 (fun i j hij hj b1 b2 hm => ?_))
  have : (i = 0 ∧ j = 1) ∨ (i = 0 ∧ j = 2) ∨ (i = 1 ∧ j = 2) := by omega
  rcases this with ⟨rfl, rfl⟩ | ⟨rfl, rfl⟩ | ⟨rfl, rfl⟩
  · exact z0 ⟨b1, b2, hm⟩
  · exact z1 ⟨b1, b2, hm⟩
  · exact z2 ⟨b1, b2, hm⟩
/-- how many of the first walkers are in the team; the i-th of the team -/
def ag_kc (t : Nat) : Nat → Nat
  | 0 => 0
  | w + 1 => if ag_bt t w then ag_kc t w + 1 else ag_kc t w
def ag_wh (t i : Nat) : Nat := if ag_bt t 0 ∧ ag_kc t 0 = i then 0 else if ag_bt t 1 ∧ ag_kc t 1 = i then 1 else 2
theorem ag_wh_kc : ∀ t, t < 8 → ∀ w, w < 3 → ag_bt t w → ag_wh t (ag_kc t w) = w ∧ ag_kc t w < ag_kc t 3 := by decide +kernel
theorem ag_wh_ok : ∀ t, t < 8 → ∀ i, i < 3 → i < ag_kc t 3 → ag_bt t (ag_wh t i) ∧ ag_wh t i < 3 ∧ ag_kc t (ag_wh t i) = i := by decide +kernel
theorem ag_kc_3 : ∀ t, t < 8 → ag_kc t 3 ≤ 3 ∧ (1 ≤ t → 1 ≤ ag_kc t 3) ∧ ag_kc t 0 = 0 ∧ ag_kc t 1 ≤ 1 ∧ ag_kc t 2 ≤ 2 := by decide +kernel
theorem ag_kc_le {t : Nat} : ∀ w, ag_kc t w ≤ w := by
  intro w
  induction w with
  | zero => exact Nat.le_refl _
  | succ w ih =>
    show (if ag_bt t w then ag_kc t w + 1 else ag_kc t w) ≤ w + 1
    by_cases c : ag_bt t w
    · rw [if_pos c]; omega
    · rw [if_neg c]; omega
theorem ag_gather {post : St1 → Prop} {t : Nat} (ht : t < 8) (H : ∀ b, (∀ i, i < ag_kc t 3 → b i = nI (ag_wh t i)) → post (wl, pd, nI (ag_kc t 3), ef, be, pf, ps, tn, a1, a2, a3, a4, a5, a6, b, a8, a9, a10, a11, a12, a13, a14, a15, a16, a17, a18, a19, a20, a21)) : wpX_gather post (wl, pd, ct, ef, be, pf, ps, tn, a1, a2, a3, a4, a5, a6, a7, a8, a9, a10, a11, a12, a13, a14, a15, a16, a17, a18, a19, a20, a21) (nI t) := by
  refine pk_loop (fun n i s => wX_gather_7 post (nI t) wl pd ef be pf ps tn n (nI i) (nI (ag_kc t i)) a1 a2 a3 a4 a5 a6 s a8 a9 a10 a11 a12 a13 a14 a15 a16 a17 a18 a19 a20 a21) (fun i s => ∀ j, j < ag_kc t i → s j = nI (ag_wh t j)) 3 0 a7 (by omega) (fun j hj => absurd hj (Nat.not_lt_zero _)) ?_ ?_
  · intro n s h
    exact pk_le 3 3 (fun _ => H s h) (fun z => absurd z (by omega))
  · intro n i s hi h hw
    have hl := ag_kc_le (t := t) i
    refine pk_le 3 i (fun z => absurd z (by omega)) (fun _ => br_c (fun y => ⟨pk_in (ag_kc t i) 3 (by omega), nm_e (nm_r (nI_1 _) (nm_r (nI_1 i) ?_))⟩) (fun y => nm_r (nI_1 i) ?_))
    · have y := (ag_bit t ht i hi).mp y
      have e : ag_kc t (i + 1) = ag_kc t i + 1 := if_pos y
      have hw := hw (upd s (ag_kc t i) (nI i))
      rw [e] at hw
      rw [nI_clamp (by omega)]
      refine hw (fun j hj => ?_)
      by_cases z : j = ag_kc t i
      · rw [z, pk_us, (ag_wh_kc t ht i hi y).1]
      · rw [pk_un z]
        exact h j (by omega)
    · have y : ¬ ag_bt t i := fun z => y ((ag_bit t ht i hi).mpr z)
      have e : ag_kc t (i + 1) = ag_kc t i := if_neg y
      have hw := hw s
      rw [e] at hw
      exact hw h
theorem ag_bd12 {i : Nat} (hi : i < 3) : ag_bd i * 12 = ag_bd (i + 1) := by
  rcases ag_i3 hi with z | z | z <;> subst z <;> rfl
theorem ag_stateOf {post : Int32 → Prop} {k : Nat} (hk : k ≤ 3) {b : Int32} {wh v : Nat → Nat} (h7 : ∀ i, i < k → a7 i = nI (wh i) ∧ wh i < 3) (hv : ∀ i, i < k → (b = 0 → a2 (wh i) = nI (v i)) ∧ (b ≠ 0 → a3 (wh i) = nI (v i)) ∧ v i < 12)
    (H : ∀ s, s < ag_bd k → (∀ i, i < k → ag_ce s i = v i) → post (nI s)) : wpX_stateOf post (wl, pd, nI k, ef, be, pf, ps, tn, a1, a2, a3, a4, a5, a6, a7, a8, a9, a10, a11, a12, a13, a14, a15, a16, a17, a18, a19, a20, a21) b := by
  refine pk_loop (fun n i s => wX_stateOf_7 post b wl pd (nI k) ef be pf ps tn a1 a2 a3 a4 a5 a6 a7 a8 a9 a10 a11 a12 a13 a14 a15 a16 a17 a18 a19 a20 a21 n (nI s) (nI (ag_bd i)) (nI i)) (fun i s => s < ag_bd i ∧ ∀ j, j < i → ag_ce s j = v j) k 0 0 (by omega) ⟨by decide, fun j hj => absurd hj (by omega)⟩ ?_ ?_
  · intro n s h
    exact pk_le k k (fun _ => H s h.1 h.2) (fun z => absurd z (by omega))
  · intro n i s hi h hw
    obtain ⟨v1, v2, v3⟩ := hv i hi
    obtain ⟨g1, g2, g3⟩ := ag_enc_step (i := i) (s := s) (x := v i) (by omega) h.1 v3
    have w3 := (h7 i hi).2
    have done : ∀ z0 : Int32, z0 = nI (v i) → wX_stateOf_49 post (wX_stateOf_7 post b wl pd (nI k) ef be pf ps tn a1 a2 a3 a4 a5 a6 a7 a8 a9 a10 a11 a12 a13 a14 a15 a16 a17 a18 a19 a20 a21 n) b (nI (ag_bd i)) (nI i) z0 (nI (ag_bd i)) (nI s) wl pd (nI k) ef be pf ps tn a1 a2 a3 a4 a5 a6 a7 a8 a9 a10 a11 a12 a13 a14 a15 a16 a17 a18 a19 a20 a21 := by
      intro z0 hz
      subst hz
      refine nm_r (by rw [pk_mul, nI_add]) (nm_r (e' := nI (ag_bd (i + 1))) ?_ (nm_r (nI_1 i) (hw _ ⟨g1, fun j hj => ?_⟩)))
      · rw [show (12 : Int32) = nI 12 from rfl, pk_mul, ag_bd12 (by omega)]
      · by_cases e : j = i
        · rw [e]; exact g2
        · rw [g3 j (by omega)]
          exact h.2 j (by omega)
    have e7 : a7 (nI i).toNatClampNeg = nI (wh i) := by rw [nI_clamp (by omega)]; exact (h7 i hi).1
    refine pk_le k i (fun z => absurd z (by omega)) (fun _ => br_c (fun y => ⟨pk_in i 3 (by omega), pk_in (wh i) 3 w3 e7, done _ ?_⟩) (fun y => ⟨pk_in i 3 (by omega), pk_in (wh i) 3 w3 e7, done _ ?_⟩))
    · rw [e7, nI_clamp (by omega)]
      exact v1 y
    · rw [e7, nI_clamp (by omega)]
      exact v2 y
theorem ag_rem12 {a : Nat} (ha : a < 2 ^ 31) : nI a - nI a / 12 * 12 = nI (a % 12) := pk_rem (d := 12) ha (by omega) (by omega)
theorem ag_div12 {a : Nat} (ha : a < 2 ^ 31) : nI a / 12 = nI (a / 12) := pk_div (d := 12) ha (by omega) (by omega)
theorem ag_dle (s i : Nat) : s / ag_bd i ≤ s := Nat.div_le_self _ _
theorem ag_guess {post : Int32 → Prop} {k : Nat} (hk : k ≤ 3) {T : Nat → Int32} {q wh : Nat → Nat} {s : Nat} (h7 : ∀ i, i < k → a7 i = nI (wh i) ∧ wh i < 3) (h5 : ∀ i, i < k → ∀ c, c < 12 → a5 (12 * wh i + c) = nI (ag_dd T (q i) c)) (hs : s < 1728)
    (H : post (nI (ag_h T k q ef s))) : wpX_guess post (wl, pd, nI k, ef, be, pf, ps, tn, a1, a2, a3, a4, a5, a6, a7, a8, a9, a10, a11, a12, a13, a14, a15, a16, a17, a18, a19, a20, a21) (nI s) := by
  have fin : ∀ i, i ≤ 3 → ag_mx (ag_hv T q s) i ≤ 1000000 ∧ ag_sm (ag_hv T q s) i ≤ 3 * 1000000 := by
    intro i hi
    refine ⟨ag_mx_le i (fun w hw => ag_hv_lt T q s w), ?_⟩
    exact Nat.le_trans (ag_sm_le (B := 1000000) i (fun w hw => ag_hv_lt T q s w)) (Nat.mul_le_mul_right _ hi)
  have e0 : s / ag_bd 0 = s := Nat.div_one s
  have key : ∃ n, (fun (n i : Nat) (_ : Unit) => wX_guess_10 post wl pd (nI k) ef be pf ps tn a1 a2 a3 a4 a5 a6 a7 a8 a9 a10 a11 a12 a13 a14 a15 a16 a17 a18 a19 a20 a21 n (nI (s / ag_bd i)) (nI (ag_mx (ag_hv T q s) i)) (nI (ag_sm (ag_hv T q s) i)) (nI i)) n 0 () := by
    refine pk_loop (σ := Unit) (fun n i _ => wX_guess_10 post wl pd (nI k) ef be pf ps tn a1 a2 a3 a4 a5 a6 a7 a8 a9 a10 a11 a12 a13 a14 a15 a16 a17 a18 a19 a20 a21 n (nI (s / ag_bd i)) (nI (ag_mx (ag_hv T q s) i)) (nI (ag_sm (ag_hv T q s) i)) (nI i)) (fun _ _ => True) k 0 () (by omega) trivial ?_ ?_
    · intro n _ _
      refine pk_le k k (fun _ => ?_) (fun z => absurd z (by omega))
      have := fin k hk
      unfold ag_h at H
      refine pk_eq (ag_mx (ag_hv T q s) k) 1000000 (fun z => ?_) (fun z => br_c (fun e => ?_) (fun e => ?_))
      · rw [if_pos z] at H
        exact H
      · rw [if_neg z, if_pos e] at H
        exact H
      · rw [if_neg z, if_neg e] at H
        exact H
    · intro n i _ hi _ hw
      have hw := hw () trivial
      have hfi := fin i (by omega)
      have w3 := (h7 i hi).2
      have hsl := ag_dle s i
      have e7 : a7 (nI i).toNatClampNeg = nI (wh i) := by rw [nI_clamp (by omega)]; exact (h7 i hi).1
      have ei : (12 * (a7 (nI i).toNatClampNeg)) + (nI (s / ag_bd i) - nI (s / ag_bd i) / 12 * 12) = nI (12 * wh i + ag_ce s i) := by rw [e7, ag_rem12 (by omega), ag_i12, ag_dig (by omega)]
      have ec := ag_ce_lt s i
      refine pk_le k i (fun z => absurd z (by omega)) (fun _ => ⟨pk_in i 3 (by omega), by decide, pk_in (12 * wh i + ag_ce s i) 36 (by omega) ei, ?_⟩)
      refine nm_r (e' := nI (ag_hv T q s i)) (by rw [ei, nI_clamp (by omega)]; exact h5 i hi _ ec) ⟨by decide, nm_r (e' := nI (s / ag_bd (i + 1))) (by rw [ag_div12 (by omega), ag_dig2 (by omega)]) ?_⟩
      have l := ag_hv_lt T q s i
      have e1 : ag_sm (ag_hv T q s) (i + 1) = ag_sm (ag_hv T q s) i + ag_hv T q s i := rfl
      have e2 : ag_mx (ag_hv T q s) (i + 1) = if ag_hv T q s i ≤ ag_mx (ag_hv T q s) i then ag_mx (ag_hv T q s) i else ag_hv T q s i := rfl
      rw [e1, e2] at hw
      refine pk_le (ag_hv T q s i) (ag_mx (ag_hv T q s) i) (fun z => nm_r (nI_add _ _) (nm_r (nI_1 i) ?_)) (fun z => nm_r (nI_add _ _) (nm_r (nI_1 i) ?_)) rfl rfl (by omega) (by omega)
      · rw [if_pos z] at hw
        exact hw
      · rw [if_neg (by omega)] at hw
        exact hw
  obtain ⟨n, hn⟩ := key
  rw [e0] at hn
  exact ⟨n, hn⟩
theorem ag_layCells {post : St1 → Prop} {k : Nat} (hk : k ≤ 3) {s : Nat} (hs : s < 1728) (H : ∀ b, (∀ i, i < k → b i = nI (ag_ce s i)) → post (wl, pd, nI k, ef, be, pf, ps, tn, a1, a2, a3, a4, a5, a6, a7, a8, a9, a10, a11, a12, b, a14, a15, a16, a17, a18, a19, a20, a21)) : wpX_layCells post (wl, pd, nI k, ef, be, pf, ps, tn, a1, a2, a3, a4, a5, a6, a7, a8, a9, a10, a11, a12, a13, a14, a15, a16, a17, a18, a19, a20, a21) (nI s) := by
  have e0 : s / ag_bd 0 = s := Nat.div_one s
  have key : ∃ n, (fun (n i : Nat) (b : Nat → Int32) => wX_layCells_4 post wl pd (nI k) ef be pf ps tn n (nI (s / ag_bd i)) (nI i) a1 a2 a3 a4 a5 a6 a7 a8 a9 a10 a11 a12 b a14 a15 a16 a17 a18 a19 a20 a21) n 0 a13 := by
    refine pk_loop (fun (n i : Nat) (b : Nat → Int32) => wX_layCells_4 post wl pd (nI k) ef be pf ps tn n (nI (s / ag_bd i)) (nI i) a1 a2 a3 a4 a5 a6 a7 a8 a9 a10 a11 a12 b a14 a15 a16 a17 a18 a19 a20 a21) (fun i b => ∀ j, j < i → b j = nI (ag_ce s j)) k 0 a13 (by omega) (fun j hj => absurd hj (by omega)) ?_ ?_
    · intro n b h
      exact pk_le k k (fun _ => H b h) (fun z => absurd z (by omega))
    · intro n i b hi h hw
      have hsl := ag_dle s i
      refine pk_le k i (fun z => absurd z (by omega)) (fun _ => ⟨by decide, pk_in i 3 (by omega), nm_e ⟨by decide, nm_r (e' := nI (s / ag_bd (i + 1))) (by rw [ag_div12 (by omega), ag_dig2 (by omega)]) (nm_r (nI_1 i) (hw _ ?_))⟩⟩)
      refine ag_fill (f := fun j => nI (ag_ce s j)) (nI_clamp (by omega)) h ?_
      rw [ag_rem12 (by omega), ag_dig (by omega)]
  obtain ⟨n, hn⟩ := key
  rw [e0] at hn
  exact ⟨n, hn⟩
theorem ag_choices {post : Int32 → Prop} {k : Nat} (h1 : 1 ≤ k) (hk : k ≤ 3) (H : post (nI (ag_cs k))) : wpX_choices post (wl, pd, nI k, ef, be, pf, ps, tn, a1, a2, a3, a4, a5, a6, a7, a8, a9, a10, a11, a12, a13, a14, a15, a16, a17, a18, a19, a20, a21) := by
  have : k = 1 ∨ k = 2 ∨ k = 3 := by omega
  rcases this with z | z | z <;> subst z
  · exact br_t rfl H
  · exact br_f (by decide) (br_t rfl H)
  · exact br_f (by decide) (br_f (by decide) H)
theorem ag_keepClear {post : Int32 → Prop} {X Y : Nat → Nat} {i j : Nat} (hi : i < 3) (hj : j < 3) (x1 : a13 i = nI (X i) ∧ X i < 12) (x2 : a13 j = nI (X j) ∧ X j < 12) (y1 : a14 i = nI (Y i) ∧ Y i < 12) (y2 : a14 j = nI (Y j) ∧ Y j < 12)
    (H1 : Y i ≠ Y j ∧ ¬ (Y i = X j ∧ Y j = X i) → post 1) (H0 : ¬ (Y i ≠ Y j ∧ ¬ (Y i = X j ∧ Y j = X i)) → post 0) : wpX_keepClear post (wl, pd, ct, ef, be, pf, ps, tn, a1, a2, a3, a4, a5, a6, a7, a8, a9, a10, a11, a12, a13, a14, a15, a16, a17, a18, a19, a20, a21) (nI i) (nI j) := by
  have f1 : a13 (nI i).toNatClampNeg = nI (X i) := by rw [nI_clamp (by omega)]; exact x1.1
  have f2 : a13 (nI j).toNatClampNeg = nI (X j) := by rw [nI_clamp (by omega)]; exact x2.1
  have f3 : a14 (nI i).toNatClampNeg = nI (Y i) := by rw [nI_clamp (by omega)]; exact y1.1
  have f4 : a14 (nI j).toNatClampNeg = nI (Y j) := by rw [nI_clamp (by omega)]; exact y2.1
  have no : ¬ (Y i = X j ∧ Y j = X i) → wX_keepClear_35 post (nI i) (nI j) 0 wl pd ct ef be pf ps tn a1 a2 a3 a4 a5 a6 a7 a8 a9 a10 a11 a12 a13 a14 a15 a16 a17 a18 a19 a20 a21 := by
    intro h
    refine ⟨pk_in i 3 hi, pk_in j 3 hj, pk_eq (Y i) (Y j) (fun z => H0 (fun w => w.1 z)) (fun z => br_t rfl (H1 ⟨z, h⟩)) f3 f4 (by omega) (by omega)⟩
  refine ⟨pk_in i 3 hi, pk_in j 3 hj, pk_eq (Y i) (X j) (fun z => ⟨pk_in j 3 hj, pk_in i 3 hi, pk_eq (Y j) (X i) (fun w => ?_) (fun w => no (fun v => w v.2)) f4 f1 (by omega) (by omega)⟩) (fun z => no (fun v => z v.1)) f3 f2 (by omega) (by omega)⟩
  refine ⟨pk_in i 3 hi, pk_in j 3 hj, pk_eq (Y i) (Y j) (fun v => H0 (fun u => u.1 v)) (fun v => br_f (by decide) (H0 (fun u => u.2 ⟨z, w⟩))) f3 f4 (by omega) (by omega)⟩
theorem ag_rem5 {a : Nat} (ha : a < 2 ^ 31) : nI a - nI a / 5 * 5 = nI (a % 5) := pk_rem (d := 5) ha (by omega) (by omega)
theorem ag_div5 {a : Nat} (ha : a < 2 ^ 31) : nI a / 5 = nI (a / 5) := pk_div (d := 5) ha (by omega) (by omega)
theorem ag_cs_le {k : Nat} : ag_cs k ≤ 125 := by
  match k with
  | 0 => decide
  | 1 => decide
  | 2 => decide
  | _ + 3 => exact Nat.le_refl _
theorem ag_chosen {post : Int32 → St1 → Prop} {k : Nat} (hk1 : 1 ≤ k) (hk : k ≤ 3) {T : Nat → Int32} (hT : ag_TOK T) (h4 : ∀ j, j < 48 → a4 j = T j) {s c : Nat} (hc : c < ag_cs k) (h13 : ∀ i, i < k → a13 i = nI (ag_ce s i))
    (H1 : ∀ b s', ag_J1 T k s c s' → (∀ i, i < k → b i = nI (ag_ce s' i)) → post (nI s') (wl, pd, nI k, ef, be, pf, ps, tn, a1, a2, a3, a4, a5, a6, a7, a8, a9, a10, a11, a12, a13, b, a15, a16, a17, a18, a19, a20, a21))
    (H0 : ∀ b, (∀ s', ¬ ag_J1 T k s c s') → post (-1) (wl, pd, nI k, ef, be, pf, ps, tn, a1, a2, a3, a4, a5, a6, a7, a8, a9, a10, a11, a12, a13, b, a15, a16, a17, a18, a19, a20, a21)) : wpX_chosen post (wl, pd, nI k, ef, be, pf, ps, tn, a1, a2, a3, a4, a5, a6, a7, a8, a9, a10, a11, a12, a13, a14, a15, a16, a17, a18, a19, a20, a21) (nI c) := by
  have hcl : c < 125 := Nat.lt_of_lt_of_le hc ag_cs_le
  have e0 : c / ag_cs 0 = c := Nat.div_one c
  have key : ∃ n, (fun (n i : Nat) (u : Nat × (Nat → Int32)) => wX_chosen_10 post wl pd (nI k) ef be pf ps tn n (nI (c / ag_cs i)) (nI u.1) (nI (ag_bd i)) (nI i) a1 a2 a3 a4 a5 a6 a7 a8 a9 a10 a11 a12 a13 u.2 a15 a16 a17 a18 a19 a20 a21) n 0 (0, a14) := by
    refine pk_loop (fun (n i : Nat) (u : Nat × (Nat → Int32)) => wX_chosen_10 post wl pd (nI k) ef be pf ps tn n (nI (c / ag_cs i)) (nI u.1) (nI (ag_bd i)) (nI i) a1 a2 a3 a4 a5 a6 a7 a8 a9 a10 a11 a12 a13 u.2 a15 a16 a17 a18 a19 a20 a21) (fun i u => u.1 < ag_bd i ∧ ∀ j, j < i → ag_op T (ag_ce s j) (ag_oe c j) = nI (ag_ce u.1 j) ∧ u.2 j = nI (ag_ce u.1 j)) k 0 (0, a14) (by omega) ⟨Nat.zero_lt_one, fun j hj => absurd hj (by omega)⟩ ?_ ?_
    · rintro n ⟨s', b⟩ ⟨g1, g2⟩
      dsimp only at g1 g2
      refine pk_le k k (fun _ => ?_) (fun z => absurd z (by omega))
      have yes : ag_clr k s s' → post (nI s') (wl, pd, nI k, ef, be, pf, ps, tn, a1, a2, a3, a4, a5, a6, a7, a8, a9, a10, a11, a12, a13, b, a15, a16, a17, a18, a19, a20, a21) := fun hcl => H1 b s' ⟨g1, fun i hi => (g2 i hi).1, hcl⟩ (fun i hi => (g2 i hi).2)
      have no : ¬ ag_clr k s s' → post (-1) (wl, pd, nI k, ef, be, pf, ps, tn, a1, a2, a3, a4, a5, a6, a7, a8, a9, a10, a11, a12, a13, b, a15, a16, a17, a18, a19, a20, a21) := fun hcl => H0 b (fun s'' hJ => hcl (by
        have : s'' = s' := ag_ce_ext hk hJ.1 g1 (fun i hi => by
          have h1 := hJ.2.1 i hi
          rw [(g2 i hi).1] at h1
          have l1 := ag_ce_lt s' i
          have l2 := ag_ce_lt s'' i
          exact ((nI_eq (by omega) (by omega)).mp h1).symm)
        rw [← this]
        exact hJ.2.2))
      have x : ∀ i, i < k → a13 i = nI (ag_ce s i) ∧ ag_ce s i < 12 := fun i hi => ⟨h13 i hi, ag_ce_lt s i⟩
      have y : ∀ i, i < k → b i = nI (ag_ce s' i) ∧ ag_ce s' i < 12 := fun i hi => ⟨(g2 i hi).2, ag_ce_lt s' i⟩
      refine pk_lt k 2 (fun k1 => br_f (by decide) (yes (fun i j hi hj => absurd hj (by omega)))) (fun k2 => ?_)
      refine ag_keepClear (X := ag_ce s) (Y := ag_ce s') (i := 0) (j := 1) (by omega) (by omega) (x 0 (by omega)) (x 1 (by omega)) (y 0 (by omega)) (y 1 (by omega)) (fun c01 => br_f (by decide) ?_) (fun c01 => br_t rfl (br_t rfl (no (fun z => c01 (z 0 1 (by omega) (by omega))))))
      refine pk_lt k 3 (fun k1 => br_f (by decide) (yes (fun i j hi hj => ?_))) (fun k2 => ?_)
      · have : i = 0 ∧ j = 1 := by omega
        rw [this.1, this.2]
        exact c01
      · refine ag_keepClear (X := ag_ce s) (Y := ag_ce s') (i := 0) (j := 2) (by omega) (by omega) (x 0 (by omega)) (x 2 (by omega)) (y 0 (by omega)) (y 2 (by omega)) (fun c02 => br_f (by decide) ?_) (fun c02 => br_t rfl (br_t rfl (no (fun z => c02 (z 0 2 (by omega) (by omega))))))
        refine ag_keepClear (X := ag_ce s) (Y := ag_ce s') (i := 1) (j := 2) (by omega) (by omega) (x 1 (by omega)) (x 2 (by omega)) (y 1 (by omega)) (y 2 (by omega)) (fun c12 => br_f (by decide) (br_f (by decide) (yes (fun i j hi hj => ?_)))) (fun c12 => br_t rfl (br_t rfl (no (fun z => c12 (z 1 2 (by omega) (by omega))))))
        have : (i = 0 ∧ j = 1) ∨ (i = 0 ∧ j = 2) ∨ (i = 1 ∧ j = 2) := by omega
        rcases this with ⟨rfl, rfl⟩ | ⟨rfl, rfl⟩ | ⟨rfl, rfl⟩
        · exact c01
        · exact c02
        · exact c12
    · rintro n i ⟨s', b⟩ hi ⟨g1, g2⟩ hw
      dsimp only at g1 g2 hw ⊢
      have hcl2 : c / ag_cs i ≤ c := Nat.div_le_self _ _
      have xl := ag_ce_lt s i
      have ol := ag_oe_lt c i
      have e13 : a13 (nI i).toNatClampNeg = nI (ag_ce s i) := by rw [nI_clamp (by omega)]; exact h13 i hi
      have neg : ag_op T (ag_ce s i) (ag_oe c i) = -1 → ∀ z0 : Int32, z0 = -1 → wX_chosen_62 post (wX_chosen_10 post wl pd (nI k) ef be pf ps tn n) (nI (c / ag_cs (i + 1))) (nI s') (nI (ag_bd i)) (nI i) z0 wl pd (nI k) ef be pf ps tn a1 a2 a3 a4 a5 a6 a7 a8 a9 a10 a11 a12 a13 b a15 a16 a17 a18 a19 a20 a21 := by
        intro h z0 hz
        subst hz
        refine br_f (by decide) (H0 b (fun s'' hJ => ?_))
        have h1 := hJ.2.1 i hi
        rw [h] at h1
        have := ag_ce_lt s'' i
        exact absurd h1.symm (ag_neg1 (by omega))
      have pos : ∀ y, y < 12 → ag_op T (ag_ce s i) (ag_oe c i) = nI y → ∀ z0 : Int32, z0 = nI y → wX_chosen_62 post (wX_chosen_10 post wl pd (nI k) ef be pf ps tn n) (nI (c / ag_cs (i + 1))) (nI s') (nI (ag_bd i)) (nI i) z0 wl pd (nI k) ef be pf ps tn a1 a2 a3 a4 a5 a6 a7 a8 a9 a10 a11 a12 a13 b a15 a16 a17 a18 a19 a20 a21 := by
        intro y hy h z0 hz
        subst hz
        obtain ⟨q1, q2, q3⟩ := ag_enc_step (i := i) (s := s') (x := y) (by omega) g1 hy
        refine br_t (nI_pos' (by omega)) ⟨pk_in i 3 (by omega), nm_r (e' := upd b i (nI y)) (by rw [nI_clamp (by omega)]) (nm_r (by rw [pk_mul, nI_add]) (nm_r (e' := nI (ag_bd (i + 1))) (by rw [show (12 : Int32) = nI 12 from rfl, pk_mul, ag_bd12 (by omega)]) (nm_r (nI_1 i) (hw (s' + ag_bd i * y, upd b i (nI y)) ⟨q1, fun j hj => ?_⟩))))⟩
        dsimp only
        by_cases e : j = i
        · rw [e, q2, pk_us]
          exact ⟨h, rfl⟩
        · rw [q3 j (by omega), pk_un e]
          exact g2 j (by omega)
      refine pk_le k i (fun z => absurd z (by omega)) (fun _ => ⟨by decide, nm_r (e' := nI (ag_oe c i)) (by rw [ag_rem5 (by omega), ag_odig (by omega)]) ⟨by decide, nm_r (e' := nI (c / ag_cs (i + 1))) (by rw [ag_div5 (by omega), ag_odig2 (by omega)]) ?_⟩⟩)
      refine pk_eq (ag_oe c i) 0 (fun z => ⟨pk_in i 3 (by omega), pos (ag_ce s i) xl ?_ _ e13⟩) (fun z => ?_)
      · unfold ag_op
        rw [if_pos z]
      · have ei : ((4 * (a13 (nI i).toNatClampNeg)) + nI (ag_oe c i)) - 1 = nI (4 * ag_ce s i + (ag_oe c i - 1)) := by
          rw [e13, ag_i4, show (1 : Int32) = nI 1 from rfl, pk_sub (by omega)]
          exact congrArg nI (by omega)
        refine ⟨pk_in i 3 (by omega), pk_in (4 * ag_ce s i + (ag_oe c i - 1)) 48 (by omega) ei, ?_⟩
        have eo : ag_op T (ag_ce s i) (ag_oe c i) = T (4 * ag_ce s i + (ag_oe c i - 1)) := by
          unfold ag_op
          rw [if_neg z, show 4 * ag_ce s i + ag_oe c i - 1 = 4 * ag_ce s i + (ag_oe c i - 1) by omega]
        rw [ei, nI_clamp (by omega), h4 _ (by omega)]
        rcases hT (ag_ce s i) (ag_oe c i - 1) xl (by omega) with y | ⟨c', hc', hn, y⟩
        · exact neg (eo.trans y) _ y
        · exact pos c' hc' (eo.trans y) _ y
  obtain ⟨n, hn⟩ := key
  dsimp only at hn
  rw [e0] at hn
  exact ⟨n, hn⟩
theorem ag_steps {post : Int32 → Prop} {k : Nat} (hk : k ≤ 3) {s s' : Nat} (h13 : ∀ i, i < k → a13 i = nI (ag_ce s i)) (h14 : ∀ i, i < k → a14 i = nI (ag_ce s' i)) (H : post (nI (ag_sm (ag_mv s s') k))) : wpX_steps post (wl, pd, nI k, ef, be, pf, ps, tn, a1, a2, a3, a4, a5, a6, a7, a8, a9, a10, a11, a12, a13, a14, a15, a16, a17, a18, a19, a20, a21) := by
  refine pk_loop (σ := Unit) (fun n i _ => wX_steps_4 post wl pd (nI k) ef be pf ps tn a1 a2 a3 a4 a5 a6 a7 a8 a9 a10 a11 a12 a13 a14 a15 a16 a17 a18 a19 a20 a21 n (nI (ag_sm (ag_mv s s') i)) (nI i)) (fun _ _ => True) k 0 () (by omega) trivial ?_ ?_
  · intro n _ _
    exact pk_le k k (fun _ => H) (fun z => absurd z (by omega))
  · intro n i _ hi _ hw
    have hw := hw () trivial
    have l1 := ag_ce_lt s i
    have l2 := ag_ce_lt s' i
    have e1 : ag_sm (ag_mv s s') (i + 1) = ag_sm (ag_mv s s') i + (if ag_ce s' i = ag_ce s i then 0 else 1) := rfl
    rw [e1] at hw
    refine pk_le k i (fun z => absurd z (by omega)) (fun _ => ⟨pk_in i 3 (by omega), pk_in i 3 (by omega), ?_⟩)
    refine pk_eq (ag_ce s' i) (ag_ce s i) (fun z => nm_r (e' := nI (ag_sm (ag_mv s s') i + 0)) (nI_add _ 0) (nm_r (nI_1 i) ?_)) (fun z => nm_r (nI_1 _) (nm_r (nI_1 i) ?_)) (by rw [nI_clamp (by omega)]; exact h14 i hi) (by rw [nI_clamp (by omega)]; exact h13 i hi) (by omega) (by omega)
    · rw [if_pos z] at hw
      exact hw
    · rw [if_neg z] at hw
      exact hw
end
end
section
/-- the ways of the walkers of team t, each alone, over n turns, and nobody in the way of another -/
def ag_AW (T : Nat → Int32) (t : Nat) (p q : Nat → Nat) (P : Nat → Nat → Nat) (n : Nat) : Prop :=
  (∀ w, w < 3 → ag_bt t w → P w 0 = p w ∧ ∀ m, m < n → ag_AS T (q w) (P w m) (P w (m + 1))) ∧
  (∀ m, m < n → ∀ i j, i < j → j < 3 → ag_bt t i → ag_bt t j → ¬ ag_meet (P i m) (P i (m + 1)) (P j m) (P j (m + 1)))
theorem ag_AW_lt {T : Nat → Int32} {t : Nat} {p q : Nat → Nat} {P : Nat → Nat → Nat} {n : Nat} (hp : ∀ w, w < 3 → p w < 12) (h : ag_AW T t p q P n) {w : Nat} (hw : w < 3) (hb : ag_bt t w) {m : Nat} (hm : m ≤ n) : P w m < 12 := by
  obtain ⟨h1, h2⟩ := h.1 w hw hb
  cases m with
  | zero => rw [h1]; exact hp w hw
  | succ m => exact (h2 m (by omega)).1
theorem ag_2ne {i j : Nat} (hi : i < 3) (hj : j < 3) : nI (2 ^ i + 2 ^ j) ≠ 0 := by
  have h : ∀ i, i < 3 → ∀ j, j < 3 → nI (2 ^ i + 2 ^ j) ≠ 0 := by decide +kernel
  exact h i hi j hj
section
variable {wl pd ct ef be pf ps tn : Int32} {a1 a2 a3 a4 a5 a6 a7 a8 a9 a10 a11 a12 a13 a14 a15 a16 a17 a18 a19 a20 a21 : Nat → Int32}
theorem ag_ca91 {post : Int32 → St1 → Prop} {J : Int32 → (Nat → Int32) → (Nat → Int32) → (Nat → Int32) → (Nat → Int32) → (Nat → Int32) → (Nat → Int32) → (Nat → Int32) → (Nat → Int32) → (Nat → Int32) → (Nat → Int32) → (Nat → Int32) → (Nat → Int32) → (Nat → Int32) → (Nat → Int32) → (Nat → Int32) → (Nat → Int32) → (Nat → Int32) → (Nat → Int32) → (Nat → Int32) → (Nat → Int32) → (Nat → Int32) → Prop} {x1 : Int32} {m : Nat}
    (H : ∀ b, (∀ w, w < 3 → b w = a16 w) → J (nI (m + 1)) a1 a2 a3 a4 a5 a6 a7 a8 a9 a10 a11 a12 a13 a14 b a16 a17 a18 a19 a20 a21) : ∃ n, wX_clashAlone_91 post J x1 (nI m) wl pd ct ef be pf ps tn n 0 a1 a2 a3 a4 a5 a6 a7 a8 a9 a10 a11 a12 a13 a14 a15 a16 a17 a18 a19 a20 a21 := by
  refine pk_loop (fun n i s => wX_clashAlone_91 post J x1 (nI m) wl pd ct ef be pf ps tn n (nI i) a1 a2 a3 a4 a5 a6 a7 a8 a9 a10 a11 a12 a13 a14 s a16 a17 a18 a19 a20 a21) (fun i s => ∀ w, w < i → s w = a16 w) 3 0 a15 (by omega) (fun w hw => absurd hw (by omega)) ?_ ?_
  · intro n s h
    exact pk_le 3 3 (fun _ => nm_r (nI_1 m) (H s h)) (fun z => absurd z (by omega))
  · intro n i s hi h hw
    refine pk_le 3 i (fun z => absurd z (by omega)) (fun _ => ⟨pk_in i 3 hi, pk_in i 3 hi, nm_e (nm_r (nI_1 i) (hw _ ?_))⟩)
    exact ag_fill (f := a16) (nI_clamp (by omega)) h (by rw [nI_clamp (by omega)])
theorem ag_ca35 {post : Int32 → St1 → Prop} {J : Int32 → (Nat → Int32) → (Nat → Int32) → (Nat → Int32) → (Nat → Int32) → (Nat → Int32) → (Nat → Int32) → (Nat → Int32) → (Nat → Int32) → (Nat → Int32) → (Nat → Int32) → (Nat → Int32) → (Nat → Int32) → (Nat → Int32) → (Nat → Int32) → (Nat → Int32) → (Nat → Int32) → (Nat → Int32) → (Nat → Int32) → (Nat → Int32) → (Nat → Int32) → (Nat → Int32) → Prop} {m t : Nat} (ht : t < 8)
    {T : Nat → Int32} (hT : ag_TOK T) (h4 : ∀ j, j < 48 → a4 j = T j) {q X : Nat → Nat} (h5 : ∀ w, w < 3 → ag_bt t w → ∀ c, c < 12 → a5 (12 * w + c) = nI (ag_dd T (q w) c)) (hX : ∀ w, w < 3 → ag_bt t w → a15 w = nI (X w) ∧ X w < 12)
    (H1 : ∀ b16 i j, i < j → j < 3 → ag_bt t i → ag_bt t j → post (nI (2 ^ i + 2 ^ j)) (wl, pd, ct, ef, be, pf, ps, tn, a1, a2, a3, a4, a5, a6, a7, a8, a9, a10, a11, a12, a13, a14, a15, b16, a17, a18, a19, a20, a21))
    (H0 : ∀ (b15 b16 : Nat → Int32) (Y : Nat → Nat), (∀ w, w < 3 → ag_bt t w → ag_AS T (q w) (X w) (Y w) ∧ b15 w = nI (Y w)) → (∀ i j, i < j → j < 3 → ag_bt t i → ag_bt t j → ¬ ag_meet (X i) (Y i) (X j) (Y j)) → J (nI (m + 1)) a1 a2 a3 a4 a5 a6 a7 a8 a9 a10 a11 a12 a13 a14 b15 b16 a17 a18 a19 a20 a21) : ∃ n, wX_clashAlone_35 post J (nI t) (nI m) wl pd ct ef be pf ps tn n 0 a1 a2 a3 a4 a5 a6 a7 a8 a9 a10 a11 a12 a13 a14 a15 a16 a17 a18 a19 a20 a21 := by
  refine pk_loop (fun n i s => wX_clashAlone_35 post J (nI t) (nI m) wl pd ct ef be pf ps tn n (nI i) a1 a2 a3 a4 a5 a6 a7 a8 a9 a10 a11 a12 a13 a14 a15 s a17 a18 a19 a20 a21) (fun i s => ∃ Y : Nat → Nat, ∀ w, w < i → ag_bt t w → ag_AS T (q w) (X w) (Y w) ∧ s w = nI (Y w)) 3 0 a16 (by omega) ⟨fun _ => 0, fun w hw => absurd hw (by omega)⟩ ?_ ?_
  · rintro n s ⟨Y, h⟩
    refine pk_le 3 3 (fun _ => ?_) (fun z => absurd z (by omega))
    refine ag_clashNow ht hX (Y := Y) (fun w hw hb => ⟨(h w hw hb).2, (h w hw hb).1.1⟩) (fun i j hij hj b1 b2 hm => br_f (ag_2ne (by omega) hj) (H1 s i j hij hj b1 b2)) (fun hn => br_t rfl (ag_ca91 (fun b hb => H0 b s Y (fun w hw hbt => ⟨(h w hw hbt).1, (hb w hw).trans (h w hw hbt).2⟩) hn)))
  · rintro n i s hi ⟨Y, h⟩ hw
    refine pk_le 3 i (fun z => absurd z (by omega)) (fun _ => br_c (fun y => ⟨pk_in i 3 hi, ?_⟩) (fun y => ⟨pk_in i 3 hi, nm_e (nm_r (nI_1 i) (hw _ ⟨Y, fun w hw' hb => ?_⟩))⟩))
    · have y := (ag_bit t ht i hi).mp y
      rw [nI_clamp (show i < 2 ^ 31 by omega), (hX i hi y).1]
      refine ag_nextAlone hT h4 hi (hX i hi y).2 (h5 i hi y) (fun c' hA => ?_)
      refine ⟨pk_in i 3 hi, nm_e (nm_r (nI_1 i) (hw _ ⟨fun w => if w = i then c' else Y w, fun w hw' hb => ?_⟩))⟩
      dsimp only
      by_cases e : w = i
      · rw [e, pk_us, if_pos rfl]
        exact ⟨hA, rfl⟩
      · rw [pk_un e, if_neg e]
        exact h w (by omega) hb
    · by_cases e : w = i
      · rw [e] at hb
        exact absurd ((ag_bit t ht i hi).mpr hb) y
      · rw [nI_clamp (by omega), pk_un e]
        exact h w (by omega) hb
theorem ag_clashAlone {post : Int32 → St1 → Prop} {t : Nat} (ht : t < 8) {T : Nat → Int32} (hT : ag_TOK T) (h4 : ∀ j, j < 48 → a4 j = T j) {p q : Nat → Nat} (hp : ∀ w, w < 3 → a2 w = nI (p w) ∧ p w < 12) (h5 : ∀ w, w < 3 → ag_bt t w → ∀ c, c < 12 → a5 (12 * w + c) = nI (ag_dd T (q w) c))
    (H1 : ∀ b15 b16 i j, i < j → j < 3 → ag_bt t i → ag_bt t j → post (nI (2 ^ i + 2 ^ j)) (wl, pd, ct, ef, be, pf, ps, tn, a1, a2, a3, a4, a5, a6, a7, a8, a9, a10, a11, a12, a13, a14, b15, b16, a17, a18, a19, a20, a21))
    (H0 : ∀ b15 b16 P, ag_AW T t p q P 12 → post 0 (wl, pd, ct, ef, be, pf, ps, tn, a1, a2, a3, a4, a5, a6, a7, a8, a9, a10, a11, a12, a13, a14, b15, b16, a17, a18, a19, a20, a21)) : wpX_clashAlone post (wl, pd, ct, ef, be, pf, ps, tn, a1, a2, a3, a4, a5, a6, a7, a8, a9, a10, a11, a12, a13, a14, a15, a16, a17, a18, a19, a20, a21) (nI t) := by
  refine pk_loop (fun n i s => wX_clashAlone_2 post (nI t) wl pd ct ef be pf ps tn n (nI i) a1 a2 a3 a4 a5 a6 a7 a8 a9 a10 a11 a12 a13 a14 s a16 a17 a18 a19 a20 a21) (fun i s => ∀ w, w < i → s w = nI (p w)) 3 0 a15 (by omega) (fun w hw => absurd hw (by omega)) ?_ ?_
  · intro n s h
    refine pk_le 3 3 (fun _ => ?_) (fun z => absurd z (by omega))
    refine pk_loop (fun (n i : Nat) (s : (Nat → Int32) × (Nat → Int32)) => wX_clashAlone_27 post (nI t) wl pd ct ef be pf ps tn n (nI i) a1 a2 a3 a4 a5 a6 a7 a8 a9 a10 a11 a12 a13 a14 s.1 s.2 a17 a18 a19 a20 a21) (fun i s => ∃ P, ag_AW T t p q P i ∧ ∀ w, w < 3 → ag_bt t w → s.1 w = nI (P w i)) 12 0 (s, a16) (by omega) ⟨fun w _ => p w, ⟨fun w hw _ => ⟨rfl, fun m hm => absurd hm (by omega)⟩, fun m hm => absurd hm (by omega)⟩, fun w hw _ => h w hw⟩ ?_ ?_
    · rintro n ⟨s1, s2⟩ ⟨P, g1, g2⟩
      exact pk_le 12 12 (fun _ => H0 s1 s2 P g1) (fun z => absurd z (by omega))
    · rintro n i ⟨s1, s2⟩ hi ⟨P, g1, g2⟩ hw
      dsimp only at g2 hw ⊢
      refine pk_le 12 i (fun z => absurd z (by omega)) (fun _ => ?_)
      refine ag_ca35 ht hT h4 (X := fun w => P w i) h5 (fun w hw' hb => ⟨g2 w hw' hb, ag_AW_lt (fun w hw => (hp w hw).2) g1 hw' hb (Nat.le_refl _)⟩) (fun b16 i j hij hj b1 b2 => H1 s1 b16 i j hij hj b1 b2) (fun b15 b16 Y f1 f2 => hw (b15, b16) ⟨fun w m => if m = i + 1 then Y w else P w m, ⟨fun w hw' hb => ⟨?_, fun m hm => ?_⟩, fun m hm a b hab hb b1 b2 => ?_⟩, fun w hw' hb => ?_⟩)
      · dsimp only
        rw [if_neg (by omega)]
        exact (g1.1 w hw' hb).1
      · dsimp only
        rw [if_neg (by omega)]
        by_cases e : m = i
        · rw [e, if_pos rfl]
          exact (f1 w hw' hb).1
        · rw [if_neg (by omega)]
          exact (g1.1 w hw' hb).2 m (by omega)
      · dsimp only
        have e1 : ∀ w, (if m = i + 1 then Y w else P w m) = P w m := fun w => if_neg (by omega)
        rw [e1, e1]
        by_cases e : m = i
        · have e2 : ∀ w, (if m + 1 = i + 1 then Y w else P w (m + 1)) = Y w := fun w => if_pos (by omega)
          rw [e2, e2, e]
          exact f2 a b hab hb b1 b2
        · have e2 : ∀ w, (if m + 1 = i + 1 then Y w else P w (m + 1)) = P w (m + 1) := fun w => if_neg (by omega)
          rw [e2, e2]
          exact g1.2 m (by omega) a b hab hb b1 b2
      · dsimp only
        rw [if_pos rfl]
        exact (f1 w hw' hb).2
  · intro n i s hi h hw
    refine pk_le 3 i (fun z => absurd z (by omega)) (fun _ => ⟨pk_in i 3 hi, pk_in i 3 hi, nm_e (nm_r (nI_1 i) (hw _ ?_))⟩)
    exact ag_fill (f := fun w => nI (p w)) (nI_clamp (by omega)) h (by rw [nI_clamp (by omega)]; exact (hp i hi).1)
end
end
section
theorem ag_J1_det {T : Nat → Int32} {k s c s' s'' : Nat} (hk : k ≤ 3) (h1 : ag_J1 T k s c s') (h2 : ag_J1 T k s c s'') : s' = s'' := by
  refine ag_ce_ext hk h1.1 h2.1 (fun i hi => ?_)
  have e1 := h1.2.1 i hi
  rw [h2.2.1 i hi] at e1
  have l1 := ag_ce_lt s' i
  have l2 := ag_ce_lt s'' i
  exact ((nI_eq (by omega) (by omega)).mp e1).symm
/-- arrays of the search -/
def ag_r8 (a : Nat → Int32) (g : Nat → Nat) : Prop := ∀ s, s < 1728 → a s = nI (g s)
def ag_r9 (a : Nat → Int32) (g og : Nat → Nat) : Prop := ∀ s, s < 1728 → g s < 1000000 → a s = nI (og s)
def ag_r10 (a : Nat → Int32) (cl : Nat → Prop) : Prop := ∀ s, s < 1728 → (cl s → a s = 1) ∧ (¬ cl s → a s = 0)
theorem ag_r8_u {a : Nat → Int32} {g : Nat → Nat} (h : ag_r8 a g) (k v : Nat) : ag_r8 (upd a k (nI v)) (fun s => if s = k then v else g s) := by
  intro s hs
  dsimp only
  by_cases e : s = k
  · rw [e, pk_us, if_pos rfl]
  · rw [pk_un e, if_neg e]
    exact h s hs
theorem ag_bd_lt {k s : Nat} (h : s < ag_bd k) : s < 1728 := Nat.lt_of_lt_of_le h ag_bd_le
section
variable {wl pd ct ef be pf ps tn : Int32} {a1 a2 a3 a4 a5 a6 a7 a8 a9 a10 a11 a12 a13 a14 a15 a16 a17 a18 a19 a20 a21 : Nat → Int32}
theorem ag_expand {post : St1 → Prop} {k : Nat} (hk1 : 1 ≤ k) (hk : k ≤ 3) {T : Nat → Int32} (hT : ag_TOK T) (h4 : ∀ j, j < 48 → a4 j = T j) {h : Nat → Nat} (hcon : as_con (ag_JJ T k) (ag_wt k ef) h)
    {s0 x bst : Nat} {g og : Nat → Nat} {cl : Nat → Prop} (hx : x < 1728) (r8 : ag_r8 a8 g) (r9 : ag_r9 a9 g og) (inv : as_inv (ag_JJ T k) (ag_wt k ef) h s0 1728 (fun s t => s ≠ x ∧ ag_JJ T k s t) g cl og bst) (hcx : cl x) (hw : g x + h x = bst) (hb : bst < 1000000)
    (H : ∀ b8 b9 b13 b14 g' og', ag_r8 b8 g' → ag_r9 b9 g' og' → as_inv (ag_JJ T k) (ag_wt k ef) h s0 1728 (ag_JJ T k) g' cl og' bst → post (wl, pd, nI k, ef, be, pf, ps, tn, a1, a2, a3, a4, a5, a6, a7, b8, b9, a10, a11, a12, b13, b14, a15, a16, a17, a18, a19, a20, a21)) : wpX_expand post (wl, pd, nI k, ef, be, pf, ps, tn, a1, a2, a3, a4, a5, a6, a7, a8, a9, a10, a11, a12, a13, a14, a15, a16, a17, a18, a19, a20, a21) (nI x) := by
  refine ag_layCells hk hx (fun b13 h13 => ?_)
  refine ag_choices hk1 hk ?_
  have key : ∃ n, (fun (n i : Nat) (u : (Nat → Int32) × (Nat → Int32) × (Nat → Int32)) => wX_expand_12 post (nI x) (nI (ag_cs k)) n (nI i) wl pd (nI k) ef be pf ps tn a1 a2 a3 a4 a5 a6 a7 u.1 u.2.1 a10 a11 a12 b13 u.2.2 a15 a16 a17 a18 a19 a20 a21) n 1 (a8, a9, a14) := by
    refine pk_loop (fun (n i : Nat) (u : (Nat → Int32) × (Nat → Int32) × (Nat → Int32)) => wX_expand_12 post (nI x) (nI (ag_cs k)) n (nI i) wl pd (nI k) ef be pf ps tn a1 a2 a3 a4 a5 a6 a7 u.1 u.2.1 a10 a11 a12 b13 u.2.2 a15 a16 a17 a18 a19 a20 a21)
      (fun i u => 1 ≤ i ∧ ∃ g' og', ag_r8 u.1 g' ∧ ag_r9 u.2.1 g' og' ∧ g' x = g x ∧ as_inv (ag_JJ T k) (ag_wt k ef) h s0 1728 (fun s t => (s ≠ x ∧ ag_JJ T k s t) ∨ (s = x ∧ ∃ c, 1 ≤ c ∧ c < i ∧ ag_J1 T k x c t)) g' cl og' bst) (ag_cs k) 1 (a8, a9, a14) ?_ ?_ ?_ ?_
    · rcases ag_k3 hk with z | z | z | z <;> subst z <;> decide
    · refine ⟨by omega, g, og, r8, r9, rfl, as_weak inv (fun s t _ _ _ hd => ?_)⟩
      rcases hd with z | ⟨_, c, c1, c2, _⟩
      · exact z
      · omega
    · rintro n ⟨b8, b9, b14⟩ ⟨_, g', og', f1, f2, f3, f4⟩
      have := ag_cs_le (k := k)
      refine pk_le (ag_cs k) (ag_cs k) (fun _ => H b8 b9 b13 b14 g' og' f1 f2 (as_weak f4 (fun s t _ _ _ hd => ?_))) (fun z => absurd z (by omega))
      by_cases e : s = x
      · obtain ⟨c, c1, c2, c3⟩ := hd
        exact Or.inr ⟨e, c, c1, c2, by rw [← e]; exact c3⟩
      · exact Or.inl ⟨e, hd⟩
    · rintro n i ⟨b8, b9, b14⟩ hi ⟨i1, g', og', f1, f2, f3, f4⟩ hwn
      dsimp only at f1 f2 hwn ⊢
      have hcs := ag_cs_le (k := k)
      refine pk_le (ag_cs k) i (fun z => absurd z (by omega)) (fun _ => ?_)
      refine ag_chosen hk1 hk hT h4 hi h13 (fun b14' s' hJ h14 => ?_) (fun b14' hJ => ?_)
      · have s'lt := ag_bd_lt hJ.1
        have gxl := f4.2.1 x hx
        have gsl := f4.2.1 s' s'lt
        have wl' := ag_wt_le (ef := ef) hk1 x s'
        have JJ : ag_JJ T k x s' := ⟨i, i1, hi, hJ⟩
        have ws := hcon x s' JJ
        have fin : ∀ z0 : Int32, z0 = nI (ag_wt k ef x s') → wX_expand_50 post (wX_expand_12 post (nI x) (nI (ag_cs k)) n) (nI x) (nI (ag_cs k)) (nI i) (nI s') z0 (b8 (nI x).toNatClampNeg) wl pd (nI k) ef be pf ps tn a1 a2 a3 a4 a5 a6 a7 b8 b9 a10 a11 a12 b13 b14' a15 a16 a17 a18 a19 a20 a21 := by
          intro z0 hz
          refine nm_r (e' := nI (g' x + ag_wt k ef x s')) (by rw [hz, nI_clamp (by omega), f1 x hx, nI_add]) ⟨pk_in s' 1728 s'lt, ?_⟩
          refine pk_le (g' s') (g' x + ag_wt k ef x s') (fun z => nm_r (nI_1 i) (hwn (b8, b9, b14') ⟨by omega, g', og', f1, f2, f3, ?_⟩)) (fun z => ⟨pk_in s' 1728 s'lt, nm_e ⟨pk_in s' 1728 s'lt, nm_e (nm_r (nI_1 i) ?_)⟩⟩) (by rw [nI_clamp (by omega)]; exact f1 s' s'lt) rfl (by omega) (by omega)
          · refine as_weak (as_norelax f4 z) (fun s t _ _ _ hd => ?_)
            rcases hd with y | ⟨y, c, c1, c2, c3⟩
            · exact Or.inl (Or.inl y)
            · by_cases e : c = i
              · rw [e] at c3
                exact Or.inr ⟨y, ag_J1_det hk c3 hJ⟩
              · exact Or.inl (Or.inr ⟨y, c, c1, by omega, c3⟩)
          · rw [nI_clamp (show s' < 2 ^ 31 by omega)]
            obtain ⟨n1, n2, n3⟩ := as_relax hcon f4 hx hcx (by rw [f3]; exact hw) hb s'lt JJ z
            refine hwn (upd b8 s' (nI (g' x + ag_wt k ef x s')), upd b9 s' (nI x), b14') ⟨by omega, _, _, ag_r8_u f1 s' _, fun s hs hg => ?_, ?_, as_weak n3 (fun s t _ _ _ hd => ?_)⟩
            · show upd b9 s' (nI x) s = nI (if s = s' then x else og' s)
              by_cases e : s = s'
              · rw [e, pk_us, if_pos rfl]
              · rw [pk_un e, if_neg e]
                dsimp only at hg
                rw [if_neg e] at hg
                exact f2 s hs hg
            · show (if x = s' then _ else g' x) = g x
              rw [if_neg (fun e => n2 e.symm)]
              exact f3
            · rcases hd with y | ⟨y, c, c1, c2, c3⟩
              · exact Or.inl (Or.inl y)
              · by_cases e : c = i
                · rw [e] at c3
                  exact Or.inr ⟨y, ag_J1_det hk c3 hJ⟩
                · exact Or.inl (Or.inr ⟨y, c, c1, by omega, c3⟩)
        refine br_f (nI_pos (by omega)) ⟨pk_in x 1728 hx, br_c (fun e => fin _ ?_) (fun e => ?_)⟩
        · unfold ag_wt
          rw [if_pos e]
          rfl
        · refine ag_steps hk h13 h14 (fin _ ?_)
          unfold ag_wt
          rw [if_neg e]
      · refine br_t (by decide) (nm_r (nI_1 i) (hwn (b8, b9, b14') ⟨by omega, g', og', f1, f2, f3, as_weak f4 (fun s t _ _ _ hd => ?_)⟩))
        rcases hd with y | ⟨y, c, c1, c2, c3⟩
        · exact Or.inl y
        · by_cases e : c = i
          · rw [e] at c3
            exact absurd c3 (hJ t)
          · exact Or.inr ⟨y, c, c1, by omega, c3⟩
  exact key
theorem ag_closeBest {post : Int32 → St1 → Prop} {k : Nat} (hk1 : 1 ≤ k) (hk : k ≤ 3) {T : Nat → Int32} (hT : ag_TOK T) (h4 : ∀ j, j < 48 → a4 j = T j) {q wh : Nat → Nat} (h7 : ∀ i, i < k → a7 i = nI (wh i) ∧ wh i < 3) (h5 : ∀ i, i < k → ∀ c, c < 12 → a5 (12 * wh i + c) = nI (ag_dd T (q i) c))
    {s0 bst : Nat} {g og : Nat → Nat} {cl : Nat → Prop} (r8 : ag_r8 a8 g) (r9 : ag_r9 a9 g og) (r10 : ag_r10 a10 cl) (inv : as_inv (ag_JJ T k) (ag_wt k ef) (ag_h T k q ef) s0 1728 (ag_JJ T k) g cl og bst) (hb : bst < 1000000)
    (H : ∀ fl b8 b9 b10 b13 b14 g' og' cl', ag_r8 b8 g' → ag_r9 b9 g' og' → ag_r10 b10 cl' → as_inv (ag_JJ T k) (ag_wt k ef) (ag_h T k q ef) s0 1728 (ag_JJ T k) g' cl' og' bst → ((fl = 0 ∧ g' = g ∧ cl' = cl ∧ ∀ s, s < 1728 → ¬ cl s → g s < 1000000 → g s + ag_h T k q ef s ≠ bst) ∨ (fl = 1 ∧ gq_cn cl 1728 < gq_cn cl' 1728)) → post (nI fl) (wl, pd, nI k, ef, nI bst, pf, ps, tn, a1, a2, a3, a4, a5, a6, a7, b8, b9, b10, a11, a12, b13, b14, a15, a16, a17, a18, a19, a20, a21)) : wpX_closeBest post (wl, pd, nI k, ef, nI bst, pf, ps, tn, a1, a2, a3, a4, a5, a6, a7, a8, a9, a10, a11, a12, a13, a14, a15, a16, a17, a18, a19, a20, a21) := by
  have hcon := ag_con (ef := ef) (q := q) hT hk
  have key : ∃ n, (fun (n i : Nat) (u : Nat × (Nat → Int32) × (Nat → Int32) × (Nat → Int32) × (Nat → Int32) × (Nat → Int32)) => wX_closeBest_4 post n (nI u.1) (nI i) wl pd (nI k) ef (nI bst) pf ps tn a1 a2 a3 a4 a5 a6 a7 u.2.1 u.2.2.1 u.2.2.2.1 a11 a12 u.2.2.2.2.1 u.2.2.2.2.2 a15 a16 a17 a18 a19 a20 a21) n 0 (0, a8, a9, a10, a13, a14) := by
    refine pk_loop (fun (n i : Nat) (u : Nat × (Nat → Int32) × (Nat → Int32) × (Nat → Int32) × (Nat → Int32) × (Nat → Int32)) => wX_closeBest_4 post n (nI u.1) (nI i) wl pd (nI k) ef (nI bst) pf ps tn a1 a2 a3 a4 a5 a6 a7 u.2.1 u.2.2.1 u.2.2.2.1 a11 a12 u.2.2.2.2.1 u.2.2.2.2.2 a15 a16 a17 a18 a19 a20 a21)
      (fun i u => ∃ g' og' cl', ag_r8 u.2.1 g' ∧ ag_r9 u.2.2.1 g' og' ∧ ag_r10 u.2.2.2.1 cl' ∧ as_inv (ag_JJ T k) (ag_wt k ef) (ag_h T k q ef) s0 1728 (ag_JJ T k) g' cl' og' bst ∧ ((u.1 = 0 ∧ g' = g ∧ cl' = cl ∧ ∀ s, s < i → ¬ cl s → g s < 1000000 → g s + ag_h T k q ef s ≠ bst) ∨ (u.1 = 1 ∧ gq_cn cl 1728 < gq_cn cl' 1728))) 1728 0 (0, a8, a9, a10, a13, a14) (by omega) ⟨g, og, cl, r8, r9, r10, inv, Or.inl ⟨rfl, rfl, rfl, fun s hs => absurd hs (by omega)⟩⟩ ?_ ?_
    · rintro n ⟨fl, b8, b9, b10, b13, b14⟩ ⟨g', og', cl', f1, f2, f3, f4, f5⟩
      dsimp only at f1 f2 f3 f5 ⊢
      refine pk_le 1728 1728 (fun _ => ⟨?_, H fl b8 b9 b10 b13 b14 g' og' cl' f1 f2 f3 f4 f5⟩) (fun z => absurd z (by omega))
      rcases f5 with z | z
      · rw [z.1]; rfl
      · rw [z.1]; rfl
    · rintro n i ⟨fl, b8, b9, b10, b13, b14⟩ hi ⟨g', og', cl', f1, f2, f3, f4, f5⟩ hw
      dsimp only at f1 f2 f3 f5 hw ⊢
      have skip : (¬ cl' i → g' i < 1000000 → g' i + ag_h T k q ef i ≠ bst) → wX_closeBest_4 post n (nI fl) (nI (i + 1)) wl pd (nI k) ef (nI bst) pf ps tn a1 a2 a3 a4 a5 a6 a7 b8 b9 b10 a11 a12 b13 b14 a15 a16 a17 a18 a19 a20 a21 := by
        intro hn
        refine hw (fl, b8, b9, b10, b13, b14) ⟨g', og', cl', f1, f2, f3, f4, ?_⟩
        rcases f5 with ⟨z1, z2, z3, z4⟩ | z
        · refine Or.inl ⟨z1, z2, z3, fun s hs h1 h2 => ?_⟩
          by_cases e : s = i
          · rw [e] at h1 h2 ⊢
            rw [← z2] at h2 ⊢
            rw [← z3] at h1
            exact hn h1 h2
          · exact z4 s (by omega) h1 h2
        · exact Or.inr z
      have gl := f4.2.1 i hi
      refine pk_le 1728 i (fun z => absurd z (by omega)) (fun _ => ⟨pk_in i 1728 hi, ?_⟩)
      refine pk_le 1000000 (g' i) (fun z => nm_r (nI_1 i) (skip (fun _ h2 => absurd h2 (by omega)))) (fun z => ⟨pk_in i 1728 hi, ?_⟩) rfl (by rw [nI_clamp (by omega)]; exact f1 i hi) (by omega) (by omega)
      rw [nI_clamp (show i < 2 ^ 31 by omega)]
      by_cases hc : cl' i
      · refine br_f (by rw [(f3 i hi).1 hc]; decide) (nm_r (nI_1 i) (skip (fun h1 => absurd hc h1)))
      · refine br_t ((f3 i hi).2 hc) ⟨pk_in i 1728 hi, ?_⟩
        refine ag_guess hk h7 h5 hi ?_
        have hl : ag_h T k q ef i ≤ 1000000 := by
          rcases Nat.lt_or_ge (ag_h T k q ef i) 1000000 with y | y
          · omega
          · unfold ag_h at y ⊢
            by_cases c1 : ag_mx (ag_hv T q i) k = 1000000
            · rw [if_pos c1]; omega
            · rw [if_neg c1] at y ⊢
              have a : ∀ j, j < k → ag_hv T q i j ≤ 11 := fun j hj => by
                have h1 := ag_mx_ge (f := ag_hv T q i) k j hj
                have h2 := ag_mx_le (f := ag_hv T q i) (B := 1000000) k (fun j _ => ag_hv_lt T q i j)
                exact ag_hv_fin (by omega)
              have h1 := ag_mx_le k a
              have h2 := ag_sm_le k a
              by_cases c2 : ef = 0
              · rw [if_pos c2]; omega
              · rw [if_neg c2]; omega
        refine nm_r (e' := nI (g' i + ag_h T k q ef i)) (by rw [f1 i hi, nI_add]) ?_
        refine pk_eq (g' i + ag_h T k q ef i) bst (fun y => ⟨pk_in i 1728 hi, nm_e ?_⟩) (fun y => nm_r (nI_1 i) (skip (fun _ _ => y))) rfl rfl (by omega) (by omega)
        have i2 := as_close f4 hi hb y
        refine ag_expand hk1 hk hT h4 hcon hi f1 f2 i2 (Or.inl rfl) y hb (fun c8 c9 c13 c14 g2 og2 e1 e2 e3 => ?_)
        refine nm_r (nI_1 i) (hw (1, c8, c9, _, c13, c14) ⟨g2, og2, _, e1, e2, fun s hs => ?_, e3, Or.inr ⟨rfl, ?_⟩⟩)
        · refine ⟨fun c => ?_, fun c => ?_⟩
          · by_cases e : s = i
            · rw [e]; exact pk_us
            · exact (pk_un e).trans ((f3 s hs).1 (c.resolve_left e))
          · exact (pk_un (fun e => c (Or.inl e))).trans ((f3 s hs).2 (fun z => c (Or.inr z)))
        · have h1 : gq_cn cl' 1728 < gq_cn (fun s => s = i ∨ cl' s) 1728 := gq_cn_lt (k := i) (fun s _ z => Or.inr z) hi hc (Or.inl rfl)
          rcases f5 with ⟨z1, z2, z3, z4⟩ | z
          · rw [z3] at h1
            rw [z3]
            exact h1
          · omega
  exact key
theorem ag_h_le {T : Nat → Int32} {k : Nat} {q : Nat → Nat} {e : Int32} {i : Nat} (hk : k ≤ 3) : ag_h T k q e i ≤ 1000000 := by
  rcases Nat.lt_or_ge (ag_h T k q e i) 1000000 with y | y
  · omega
  · unfold ag_h at y ⊢
    by_cases c1 : ag_mx (ag_hv T q i) k = 1000000
    · rw [if_pos c1]; omega
    · rw [if_neg c1] at y ⊢
      have a : ∀ j, j < k → ag_hv T q i j ≤ 11 := fun j hj => by
        have h1 := ag_mx_ge (f := ag_hv T q i) k j hj
        have h2 := ag_mx_le (f := ag_hv T q i) (B := 1000000) k (fun j _ => ag_hv_lt T q i j)
        exact ag_hv_fin (by omega)
      have h1 := ag_mx_le k a
      have h2 := ag_sm_le k a
      by_cases c2 : e = 0
      · rw [if_pos c2]; omega
      · rw [if_neg c2]; omega
theorem ag_raiseBest {post : St1 → Prop} {k : Nat} (hk : k ≤ 3) {T : Nat → Int32} {q wh : Nat → Nat} (h7 : ∀ i, i < k → a7 i = nI (wh i) ∧ wh i < 3) (h5 : ∀ i, i < k → ∀ c, c < 12 → a5 (12 * wh i + c) = nI (ag_dd T (q i) c))
    {g : Nat → Nat} {cl : Nat → Prop} (r8 : ag_r8 a8 g) (r10 : ag_r10 a10 cl) (hg : ∀ s, s < 1728 → g s ≤ 1000000)
    (H : ∀ L, L ≤ 1000000 → (∀ s, s < 1728 → ¬ cl s → g s < 1000000 → L ≤ g s + ag_h T k q ef s) → (L = 1000000 ∨ ∃ s, s < 1728 ∧ ¬ cl s ∧ g s < 1000000 ∧ g s + ag_h T k q ef s = L) → post (wl, pd, nI k, ef, nI L, pf, ps, tn, a1, a2, a3, a4, a5, a6, a7, a8, a9, a10, a11, a12, a13, a14, a15, a16, a17, a18, a19, a20, a21)) : wpX_raiseBest post (wl, pd, nI k, ef, be, pf, ps, tn, a1, a2, a3, a4, a5, a6, a7, a8, a9, a10, a11, a12, a13, a14, a15, a16, a17, a18, a19, a20, a21) := by
  refine pk_loop (fun n i L => wX_raiseBest_5 post wl pd (nI k) ef be pf ps tn a1 a2 a3 a4 a5 a6 a7 a8 a9 a10 a11 a12 a13 a14 a15 a16 a17 a18 a19 a20 a21 n (nI L) (nI i)) (fun i L => L ≤ 1000000 ∧ (∀ s, s < i → ¬ cl s → g s < 1000000 → L ≤ g s + ag_h T k q ef s) ∧ (L = 1000000 ∨ ∃ s, s < 1728 ∧ ¬ cl s ∧ g s < 1000000 ∧ g s + ag_h T k q ef s = L)) 1728 0 1000000 (by omega) ⟨by omega, fun s hs => absurd hs (by omega), Or.inl rfl⟩ ?_ ?_
  · rintro n L ⟨f1, f2, f3⟩
    exact pk_le 1728 1728 (fun _ => H L f1 f2 f3) (fun z => absurd z (by omega))
  · rintro n i L hi ⟨f1, f2, f3⟩ hw
    have gl := hg i hi
    have keep : (¬ cl i → g i < 1000000 → L ≤ g i + ag_h T k q ef i) → wX_raiseBest_5 post wl pd (nI k) ef be pf ps tn a1 a2 a3 a4 a5 a6 a7 a8 a9 a10 a11 a12 a13 a14 a15 a16 a17 a18 a19 a20 a21 n (nI L) (nI (i + 1)) := by
      intro hn
      refine hw L ⟨f1, fun s hs h1 h2 => ?_, f3⟩
      by_cases e : s = i
      · rw [e] at h1 h2 ⊢
        exact hn h1 h2
      · exact f2 s (by omega) h1 h2
    refine pk_le 1728 i (fun z => absurd z (by omega)) (fun _ => ⟨pk_in i 1728 hi, ?_⟩)
    refine pk_le 1000000 (g i) (fun z => nm_r (nI_1 i) (keep (fun _ h2 => absurd h2 (by omega)))) (fun z => ⟨pk_in i 1728 hi, ?_⟩) rfl (by rw [nI_clamp (by omega)]; exact r8 i hi) (by omega) (by omega)
    rw [nI_clamp (show i < 2 ^ 31 by omega)]
    by_cases hc : cl i
    · exact br_f (by rw [(r10 i hi).1 hc]; decide) (nm_r (nI_1 i) (keep (fun h1 => absurd hc h1)))
    · refine br_t ((r10 i hi).2 hc) ⟨pk_in i 1728 hi, ?_⟩
      refine ag_guess hk h7 h5 hi ?_
      have hl := ag_h_le (T := T) (q := q) (e := ef) (i := i) hk
      refine nm_r (e' := nI (g i + ag_h T k q ef i)) (by rw [r8 i hi, nI_add]) ?_
      refine pk_le L (g i + ag_h T k q ef i) (fun y => nm_r (nI_1 i) (keep (fun _ _ => y))) (fun y => nm_r (nI_1 i) (hw (g i + ag_h T k q ef i) ⟨by omega, fun s hs h1 h2 => ?_, Or.inr ⟨i, hi, hc, z, rfl⟩⟩)) rfl rfl (by omega) (by omega)
      by_cases e : s = i
      · rw [e]; exact Nat.le_refl _
      · have := f2 s (by omega) h1 h2
        omega
theorem ag_solve {post : Int32 → St1 → Prop} {t : Nat} (ht : t < 8) (ht1 : 1 ≤ t) {T : Nat → Int32} (hT : ag_TOK T) (h4 : ∀ j, j < 48 → a4 j = T j) {p q : Nat → Nat} (hp : ∀ w, w < 3 → a2 w = nI (p w) ∧ p w < 12) (hq : ∀ w, w < 3 → a3 w = nI (q w) ∧ q w < 12)
    (h5 : ∀ w, w < 3 → ag_bt t w → ∀ c, c < 12 → a5 (12 * w + c) = nI (ag_dd T (q w) c))
    (H1 : ∀ bst s0 go b7 b8 b9 b10 b13 b14 g og cl, s0 < ag_bd (ag_kc t 3) → go < ag_bd (ag_kc t 3) → (∀ i, i < ag_kc t 3 → ag_ce s0 i = p (ag_wh t i)) → (∀ i, i < ag_kc t 3 → ag_ce go i = q (ag_wh t i)) → (∀ i, i < ag_kc t 3 → b7 i = nI (ag_wh t i)) →
      ag_r8 b8 g → ag_r9 b9 g og → as_inv (ag_JJ T (ag_kc t 3)) (ag_wt (ag_kc t 3) ef) (ag_h T (ag_kc t 3) (fun i => q (ag_wh t i)) ef) s0 1728 (ag_JJ T (ag_kc t 3)) g cl og bst → cl go → post (nI (g go)) (wl, pd, nI (ag_kc t 3), ef, nI bst, pf, ps, tn, a1, a2, a3, a4, a5, a6, b7, b8, b9, b10, a11, a12, b13, b14, a15, a16, a17, a18, a19, a20, a21))
    (H0 : ∀ bst s0 go b7 b8 b9 b10 b13 b14, s0 < ag_bd (ag_kc t 3) → go < ag_bd (ag_kc t 3) → (∀ i, i < ag_kc t 3 → ag_ce s0 i = p (ag_wh t i)) → (∀ i, i < ag_kc t 3 → ag_ce go i = q (ag_wh t i)) →
      (∀ n, ¬ gq_wk (ag_JJ T (ag_kc t 3)) n s0 go) → post (-2) (wl, pd, nI (ag_kc t 3), ef, nI bst, pf, ps, tn, a1, a2, a3, a4, a5, a6, b7, b8, b9, b10, a11, a12, b13, b14, a15, a16, a17, a18, a19, a20, a21)) : wpX_solve post (wl, pd, ct, ef, be, pf, ps, tn, a1, a2, a3, a4, a5, a6, a7, a8, a9, a10, a11, a12, a13, a14, a15, a16, a17, a18, a19, a20, a21) (nI t) := by
  refine ag_gather (ct := ct) ht (fun b7 h7 => ?_)
  obtain ⟨hk, hk1', _⟩ := ag_kc_3 t ht
  have hk1 := hk1' ht1
  have wok : ∀ i, i < ag_kc t 3 → ag_bt t (ag_wh t i) ∧ ag_wh t i < 3 ∧ ag_kc t (ag_wh t i) = i := fun i hi => ag_wh_ok t ht i (by omega) hi
  have h7' : ∀ i, i < ag_kc t 3 → b7 i = nI (ag_wh t i) ∧ ag_wh t i < 3 := fun i hi => ⟨h7 i hi, (wok i hi).2.1⟩
  have h5' : ∀ i, i < ag_kc t 3 → ∀ c, c < 12 → a5 (12 * ag_wh t i + c) = nI (ag_dd T (q (ag_wh t i)) c) := fun i hi => h5 _ (wok i hi).2.1 (wok i hi).1
  have hcon := ag_con (ef := ef) (q := fun i => q (ag_wh t i)) hT hk
  refine ag_stateOf hk h7' (v := fun i => p (ag_wh t i)) (fun i hi => ⟨fun _ => (hp _ (wok i hi).2.1).1, fun z => absurd rfl z, (hp _ (wok i hi).2.1).2⟩) (fun s0 s0l s0c => ?_)
  refine ag_stateOf hk h7' (v := fun i => q (ag_wh t i)) (fun i hi => ⟨fun z => absurd z (by decide), fun _ => (hq _ (wok i hi).2.1).1, (hq _ (wok i hi).2.1).2⟩) (fun go gol goc => ?_)
  have s0l' := ag_bd_lt s0l
  have gol' := ag_bd_lt gol
  have main : ∀ b8 b9 b10, ag_r8 b8 (fun s => if s = s0 then 0 else 1000000) → b9 s0 = nI s0 → (∀ s, s < 1728 → b10 s = 0) → ∃ n, wX_solve_77 post (nI go) n 0 wl pd (nI (ag_kc t 3)) ef (nI (ag_h T (ag_kc t 3) (fun i => q (ag_wh t i)) ef s0)) pf ps tn a1 a2 a3 a4 a5 a6 b7 b8 b9 b10 a11 a12 a13 a14 a15 a16 a17 a18 a19 a20 a21 := by
    intro b8 b9 b10 r8 r9 r10
    have hl := ag_h_le (T := T) (q := fun i => q (ag_wh t i)) (e := ef) (i := s0) hk
    have inv0 : as_inv (ag_JJ T (ag_kc t 3)) (ag_wt (ag_kc t 3) ef) (ag_h T (ag_kc t 3) (fun i => q (ag_wh t i)) ef) s0 1728 (ag_JJ T (ag_kc t 3)) (fun s => if s = s0 then 0 else 1000000) (fun _ => False) (fun _ => s0) (ag_h T (ag_kc t 3) (fun i => q (ag_wh t i)) ef s0) := by
      refine ⟨if_pos rfl, fun s hs => ?_, fun s hs hg => Or.inl ?_, rfl, fun s _ z => z.elim, fun s hs _ hg => ?_, fun s _ z => z.elim⟩
      · dsimp only
        by_cases e : s = s0
        · rw [if_pos e]; omega
        · rw [if_neg e]; omega
      · dsimp only at hg
        by_cases e : s = s0
        · exact e
        · rw [if_neg e] at hg
          omega
      · dsimp only at hg ⊢
        by_cases e : s = s0
        · rw [e]; omega
        · rw [if_neg e] at hg
          omega
    have key : ∃ n, (fun (n i : Nat) (u : Nat × (Nat → Int32) × (Nat → Int32) × (Nat → Int32) × (Nat → Int32) × (Nat → Int32)) => wX_solve_77 post (nI go) n (nI i) wl pd (nI (ag_kc t 3)) ef (nI u.1) pf ps tn a1 a2 a3 a4 a5 a6 b7 u.2.1 u.2.2.1 u.2.2.2.1 a11 a12 u.2.2.2.2.1 u.2.2.2.2.2 a15 a16 a17 a18 a19 a20 a21) n 0 (ag_h T (ag_kc t 3) (fun i => q (ag_wh t i)) ef s0, b8, b9, b10, a13, a14) := by
      refine pk_loop (fun (n i : Nat) (u : Nat × (Nat → Int32) × (Nat → Int32) × (Nat → Int32) × (Nat → Int32) × (Nat → Int32)) => wX_solve_77 post (nI go) n (nI i) wl pd (nI (ag_kc t 3)) ef (nI u.1) pf ps tn a1 a2 a3 a4 a5 a6 b7 u.2.1 u.2.2.1 u.2.2.2.1 a11 a12 u.2.2.2.2.1 u.2.2.2.2.2 a15 a16 a17 a18 a19 a20 a21)
        (fun i u => u.1 ≤ 1000000 ∧ ∃ g og cl, ag_r8 u.2.1 g ∧ ag_r9 u.2.2.1 g og ∧ ag_r10 u.2.2.2.1 cl ∧ as_inv (ag_JJ T (ag_kc t 3)) (ag_wt (ag_kc t 3) ef) (ag_h T (ag_kc t 3) (fun i => q (ag_wh t i)) ef) s0 1728 (ag_JJ T (ag_kc t 3)) g cl og u.1 ∧
          (i ≤ 2 * gq_cn cl 1728 ∨ (i ≤ 2 * gq_cn cl 1728 + 1 ∧ (1000000 ≤ u.1 ∨ ∃ s, s < 1728 ∧ ¬ cl s ∧ g s < 1000000 ∧ g s + ag_h T (ag_kc t 3) (fun i => q (ag_wh t i)) ef s = u.1)))) 20000 0 (ag_h T (ag_kc t 3) (fun i => q (ag_wh t i)) ef s0, b8, b9, b10, a13, a14) (by omega) ?_ ?_ ?_
      · refine ⟨hl, _, _, _, r8, fun s hs hg => ?_, fun s hs => ⟨fun z => z.elim, fun _ => r10 s hs⟩, inv0, Or.inl (by omega)⟩
        dsimp only at hg
        by_cases e : s = s0
        · rw [e]; exact r9
        · rw [if_neg e] at hg
          omega
      · rintro n ⟨bst, b8, b9, b10, b13, b14⟩ ⟨f0, g, og, cl, f1, f2, f3, f4, f5⟩
        have := gq_cn_le (p := cl) 1728
        omega
      · rintro n i ⟨bst, b8, b9, b10, b13, b14⟩ hi ⟨f0, g, og, cl, f1, f2, f3, f4, f5⟩ hw
        dsimp only at f0 f1 f2 f3 f4 f5 hw ⊢
        have fin : (cl go ∨ 1000000 ≤ bst) → wX_solve_124 post (nI go) wl pd (nI (ag_kc t 3)) ef (nI bst) pf ps tn a1 a2 a3 a4 a5 a6 b7 b8 b9 b10 a11 a12 b13 b14 a15 a16 a17 a18 a19 a20 a21 := by
          intro hor
          refine ⟨pk_in go 1728 gol', ?_⟩
          rw [nI_clamp (show go < 2 ^ 31 by omega)]
          by_cases hc : cl go
          · refine br_f (by rw [(f3 go gol').1 hc]; decide) ⟨pk_in go 1728 gol', ?_⟩
            rw [f1 go gol']
            exact H1 bst s0 go b7 b8 b9 b10 b13 b14 g og cl s0l gol s0c goc h7 f1 f2 f4 hc
          · refine br_t ((f3 go gol').2 hc) (H0 bst s0 go b7 b8 b9 b10 b13 b14 s0l gol s0c goc (fun n hwk => ?_))
            refine as_none hcon (fun a b _ hR => ag_bd_lt (ag_JJ_lt hR)) f4 (ag_h_goal hk goc) s0l' hc (hor.resolve_left hc) (B := 3) (fun a b _ => Nat.le_trans (ag_wt_le hk1 a b) hk) (by omega) hwk
        refine pk_le 20000 i (fun z => absurd z (by omega)) (fun _ => ?_)
        refine pk_le 1000000 bst (fun z => fin (Or.inr z)) (fun z => ⟨pk_in go 1728 gol', ?_⟩) rfl rfl (by omega) (by omega)
        rw [nI_clamp (show go < 2 ^ 31 by omega)]
        by_cases hc : cl go
        · exact br_f (by rw [(f3 go gol').1 hc]; decide) (fin (Or.inl hc))
        · refine br_t ((f3 go gol').2 hc) ?_
          refine ag_closeBest hk1 hk hT h4 h7' h5' f1 f2 f3 f4 z (fun fl c8 c9 c10 c13 c14 g' og' cl' e1 e2 e3 e4 e5 => ?_)
          rcases e5 with ⟨y1, y2, y3, y4⟩ | ⟨y1, y2⟩
          · rw [y1]
            refine br_t rfl ?_
            refine ag_raiseBest hk h7' h5' e1 e3 e4.2.1 (fun L l1 l2 l3 => ?_)
            refine nm_r (nI_1 i) (hw (L, c8, c9, c10, c13, c14) ⟨l1, g', og', cl', e1, e2, e3, as_raise e4 ?_ l2, Or.inr ⟨?_, ?_⟩⟩)
            · rcases l3 with x | ⟨s, x1, x2, x3, x4⟩
              · omega
              · have := e4.2.2.2.2.2.1 s x1 x2 x3
                omega
            · rw [y3]
              rcases f5 with x | ⟨x, x'⟩
              · omega
              · rcases x' with v | ⟨s, v1, v2, v3, v4⟩
                · omega
                · exact absurd v4 (y4 s v1 v2 v3)
            · rcases l3 with x | x
              · exact Or.inl (by omega)
              · exact Or.inr x
          · rw [y1]
            refine br_f (by decide) (nm_r (nI_1 i) (hw (bst, c8, c9, c10, c13, c14) ⟨f0, g', og', cl', e1, e2, e3, e4, Or.inl ?_⟩))
            omega
    exact key
  refine pk_loop (fun (n i : Nat) (u : (Nat → Int32) × (Nat → Int32)) => wX_solve_20 post (nI s0) (nI go) wl pd (nI (ag_kc t 3)) ef be pf ps tn n (nI i) a1 a2 a3 a4 a5 a6 b7 u.1 a9 u.2 a11 a12 a13 a14 a15 a16 a17 a18 a19 a20 a21) (fun i u => ∀ s, s < i → u.1 s = nI 1000000 ∧ u.2 s = 0) 1728 0 (a8, a10) (by omega) (fun s hs => absurd hs (by omega)) ?_ ?_
  · rintro n ⟨b8, b10⟩ h
    dsimp only at h ⊢
    refine pk_le 1728 1728 (fun _ => ⟨pk_in s0 1728 s0l', nm_e ⟨pk_in s0 1728 s0l', nm_e ?_⟩⟩) (fun z => absurd z (by omega))
    refine ag_guess hk h7' h5' s0l' ?_
    rw [nI_clamp (show s0 < 2 ^ 31 by omega)]
    refine main _ _ _ (fun s hs => ?_) pk_us (fun s hs => (h s hs).2)
    dsimp only
    by_cases e : s = s0
    · rw [e, if_pos rfl]; exact pk_us
    · rw [if_neg e]
      exact (pk_un e).trans (h s hs).1
  · rintro n i ⟨b8, b10⟩ hi h hw
    dsimp only at h hw ⊢
    refine pk_le 1728 i (fun z => absurd z (by omega)) (fun _ => ⟨pk_in i 1728 hi, nm_e ⟨pk_in i 1728 hi, nm_e (nm_r (nI_1 i) (hw (_, _) (fun s hs => ?_)))⟩⟩)
    dsimp only
    rw [nI_clamp (show i < 2 ^ 31 by omega)]
    by_cases e : s = i
    · rw [e]; exact ⟨pk_us, pk_us⟩
    · exact ⟨(pk_un e).trans (h s (by omega)).1, (pk_un e).trans (h s (by omega)).2⟩
end
end
section
/-- what a plan answers: -2 without a joint walk; else a length (ef = 0), or an effort -/
def ag_PS (T : Nat → Int32) (k : Nat) (ef : Int32) (s0 go : Nat) (r : Int32) : Prop :=
  (r = -2 ∧ ∀ n, ¬ gq_wk (ag_JJ T k) n s0 go) ∨
  ∃ n, r = nI n ∧ n ≤ 2000000 ∧ (∃ m, gq_wk (ag_JJ T k) m s0 go) ∧ (ef = 0 → gq_wk (ag_JJ T k) n s0 go ∧ ∀ m, gq_wk (ag_JJ T k) m s0 go → n ≤ m) ∧ (ef ≠ 0 → ∀ m, gq_wk (ag_JJ T k) m s0 go → n ≤ k * m)
theorem ag_wt_0 {k : Nat} {ef : Int32} (h : ef = 0) (s s' : Nat) : ag_wt k ef s s' = 1 := by
  unfold ag_wt
  rw [if_pos h]
theorem ag_chain {R : Nat → Nat → Prop} {N : Nat} {p : Nat → Nat} {n : Nat} (h : ∀ j, j < n → R (p j) (p (j + 1))) : gq_wk R n (p 0) (p n) := by
  have := gq_of h n 0 (by omega)
  rw [Nat.zero_add] at this
  exact this
/-- what is known of a solved group -/
theorem ag_solved {T : Nat → Int32} (hT : ag_TOK T) {k : Nat} (hk1 : 1 ≤ k) (hk : k ≤ 3) {q : Nat → Nat} {ef : Int32} {s0 go bst : Nat} {g og : Nat → Nat} {cl : Nat → Prop}
    (inv : as_inv (ag_JJ T k) (ag_wt k ef) (ag_h T k q ef) s0 1728 (ag_JJ T k) g cl og bst) (s0l : s0 < 1728) (gol : go < 1728) (goc : ∀ i, i < k → ag_ce go i = q i) (hc : cl go) :
    g go < 1000000 ∧ (∃ (n : Nat) (p : Nat → Nat), p 0 = s0 ∧ p n = go ∧ n < 1728 ∧ (ef = 0 → n = g go) ∧ (∀ j, j ≤ n → p j < 1728 ∧ g (p j) < 1000000) ∧ (∀ i j, i ≤ n → j ≤ n → p i = p j → i = j) ∧ (∀ j, j < n → ag_JJ T k (p j) (p (j + 1)) ∧ og (p (j + 1)) = p j)) ∧ (ef = 0 → gq_wk (ag_JJ T k) (g go) s0 go ∧ ∀ m, gq_wk (ag_JJ T k) m s0 go → g go ≤ m) ∧ (ef ≠ 0 → ∀ m, gq_wk (ag_JJ T k) m s0 go → g go ≤ k * m) := by
  have hcon := ag_con (ef := ef) (q := q) hT hk
  have hN : ∀ a b, a < 1728 → ag_JJ T k a b → b < 1728 := fun a b _ hR => ag_bd_lt (ag_JJ_lt hR)
  have hg := (inv.2.2.2.2.1 go gol hc).1
  obtain ⟨n, p, p0, pn, pl, pr⟩ := as_pw hcon inv (g go) go (Nat.le_refl _) gol hg
  have gm : ∀ d j, j + d ≤ n → g (p j) + d ≤ g (p (j + d)) := by
    intro d
    induction d with
    | zero => intro j _; exact Nat.le_refl _
    | succ d ih =>
      intro j hj
      have h1 := ih j (by omega)
      have h2 := (pr (j + d) (by omega)).2.2.2
      have h3 := (hcon _ _ (pr (j + d) (by omega)).1).1
      rw [show j + (d + 1) = j + d + 1 by omega]
      omega
  have inj : ∀ i j, i ≤ n → j ≤ n → p i = p j → i = j := by
    intro i j hi hj e
    rcases Nat.lt_trichotomy i j with c | c | c
    · have := gm (j - i) i (by omega)
      rw [show i + (j - i) = j by omega, ← e] at this
      omega
    · exact c
    · have := gm (i - j) j (by omega)
      rw [show j + (i - j) = i by omega, ← e] at this
      omega
  have nl := gq_pig 1728 (n + 1) p (fun i hi => (pl i (by omega)).1) (fun i j hi hj e => inj i j (by omega) (by omega) e)
  have wk : gq_wk (ag_JJ T k) n s0 go := by
    have := ag_chain (R := ag_JJ T k) (N := 0) (fun j hj => (pr j hj).1)
    rw [p0, pn] at this
    exact this
  have ne : ef = 0 → n = g go := by
    intro e
    have : ∀ j, j ≤ n → g (p j) = j := by
      intro j
      induction j with
      | zero => intro _; rw [p0]; exact inv.1
      | succ j ih =>
        intro hj
        have h1 := (pr j (by omega)).2.2.2
        rw [ag_wt_0 e] at h1
        have := ih (by omega)
        omega
    have h := this n (Nat.le_refl _)
    rw [pn] at h
    exact h.symm
  refine ⟨hg, ⟨n, p, p0, pn, by omega, ne, pl, inj, fun j hj => ⟨(pr j hj).1, (pr j hj).2.1⟩⟩, fun e => ⟨by rw [← ne e]; exact wk, fun m hm => ?_⟩, fun e m hm => ?_⟩
  · obtain ⟨c, c1, _⟩ := gq_wk_pw (wt := ag_wt k ef) (B := k) (fun a b _ => ag_wt_le hk1 a b) hm
    have h1 := gq_pw_eq (fun a b _ => ag_wt_0 e a b) c1
    have h2 := as_opt hcon hN inv (ag_h_goal hk goc) s0l gol hc c1
    omega
  · obtain ⟨c, c1, c2⟩ := gq_wk_pw (wt := ag_wt k ef) (B := k) (fun a b _ => ag_wt_le hk1 a b) hm
    have h2 := as_opt hcon hN inv (ag_h_goal hk goc) s0l gol hc c1
    omega
/-- a walker alone comes nearer turn by turn -/
theorem ag_AS_dd {T : Nat → Int32} {g : Nat} {X : Nat → Nat} {n : Nat} (h0 : ag_dd T g (X 0) < 1000000) (h : ∀ m, m < n → ag_AS T g (X m) (X (m + 1))) : ∀ m, m ≤ n → ag_dd T g (X m) = ag_dd T g (X 0) - m := by
  intro m
  induction m with
  | zero => intro _; rfl
  | succ m ih =>
    intro hm
    have e := ih (by omega)
    rcases (h m (by omega)).2 with ⟨z1, z2⟩ | ⟨z1, z2, z3⟩
    · rw [z1]
      rcases z2 with z | z
      · omega
      · omega
    · omega
theorem ag_AS_at {T : Nat → Int32} {g : Nat} {X : Nat → Nat} {n : Nat} (hX : X 0 < 12) (h0 : ag_dd T g (X 0) < 1000000) (h : ∀ m, m < n → ag_AS T g (X m) (X (m + 1))) {m : Nat} (hm : m ≤ n) (hd : ag_dd T g (X 0) ≤ m) : X m = g := by
  have e := ag_AS_dd h0 h m hm
  have hl : X m < 12 := by
    cases m with
    | zero => exact hX
    | succ m => exact (h m (by omega)).1
  exact ag_dd_0 (T := T) hl (by omega)
theorem ag_AS_lazy {T : Nat → Int32} {g c c' : Nat} (h : ag_AS T g c c') : c' = c ∨ ag_E T c c' := by
  rcases h.2 with z | z
  · exact Or.inl z.1
  · exact Or.inr z.1
/-- a joint walk bounds each walker's distance -/
theorem ag_walk_dd {T : Nat → Int32} {k n s0 go : Nat} (h : gq_wk (ag_JC T k) n s0 go) {i : Nat} (hi : i < k) : ag_dd T (ag_ce go i) (ag_ce s0 i) ≤ n ∧ ag_dd T (ag_ce go i) (ag_ce s0 i) < 12 := by
  have h1 := ag_proj hi h
  refine ⟨ag_dd_lazy h1, ?_⟩
  obtain ⟨m, _, hw⟩ := gq_lazy h1
  rcases ag_dd_cases (T := T) (g := ag_ce go i) (ag_ce_lt s0 i) with z | z
  · exact z.1
  · exact absurd hw (z.2 m)
theorem ag_wh_mono : ∀ t, t < 8 → ∀ i, i < 3 → ∀ j, j < 3 → i < j → j < ag_kc t 3 → ag_wh t i < ag_wh t j := by decide +kernel
/-- a joint walk out of the ways of all, each lazy, none in the way -/
theorem ag_join {T : Nat → Int32} {k : Nat} (hk : k ≤ 3) {Q : Nat → Nat → Nat} {n : Nat} (hl : ∀ i, i < k → ∀ m, m ≤ n → Q i m < 12) (hs : ∀ i, i < k → ∀ m, m < n → Q i (m + 1) = Q i m ∨ ag_E T (Q i m) (Q i (m + 1)))
    (hc : ∀ i j, i < j → j < k → ∀ m, m < n → Q i (m + 1) ≠ Q j (m + 1) ∧ ¬ (Q i (m + 1) = Q j m ∧ Q j (m + 1) = Q i m)) {s0 go : Nat} (s0l : s0 < ag_bd k) (gol : go < ag_bd k) (s0c : ∀ i, i < k → ag_ce s0 i = Q i 0) (goc : ∀ i, i < k → ag_ce go i = Q i n) : gq_wk (ag_JC T k) n s0 go := by
  have hx : ∀ m, ∃ s, m ≤ n → s < ag_bd k ∧ ∀ i, i < k → ag_ce s i = Q i m := by
    intro m
    by_cases c : m ≤ n
    · obtain ⟨s, h1, h2⟩ := ag_enc (fun i => Q i m) k hk (fun i hi => hl i hi m c)
      exact ⟨s, fun _ => ⟨h1, h2⟩⟩
    · exact ⟨0, fun z => absurd z c⟩
  have hS : ∃ S : Nat → Nat, ∀ m, m ≤ n → S m < ag_bd k ∧ ∀ i, i < k → ag_ce (S m) i = Q i m := ⟨fun m => Classical.choose (hx m), fun m hm => Classical.choose_spec (hx m) hm⟩
  obtain ⟨S, hS⟩ := hS
  have e0 : S 0 = s0 := ag_ce_ext hk (hS 0 (by omega)).1 s0l (fun i hi => by rw [(hS 0 (by omega)).2 i hi, s0c i hi])
  have en : S n = go := ag_ce_ext hk (hS n (by omega)).1 gol (fun i hi => by rw [(hS n (by omega)).2 i hi, goc i hi])
  have w := ag_chain (R := ag_JC T k) (N := 0) (p := S) (n := n) (fun m hm => by
    refine ⟨(hS (m + 1) (by omega)).1, fun i hi => ?_, fun i j hij hj => ?_⟩
    · rw [(hS (m + 1) (by omega)).2 i hi, (hS m (by omega)).2 i hi]
      exact hs i hi m hm
    · rw [(hS (m + 1) (by omega)).2 i (by omega), (hS m (by omega)).2 i (by omega), (hS (m + 1) (by omega)).2 j hj, (hS m (by omega)).2 j hj]
      exact hc i j hij hj m hm)
  rw [e0, en] at w
  exact w
/-- an exact length out of a lazy walk and a lower bound -/
theorem ag_exact {T : Nat → Int32} {k : Nat} (hk : k ≤ 3) {s0 go n : Nat} (s0l : s0 < ag_bd k) (hw : gq_wk (ag_JC T k) n s0 go) (hm : ∀ m, gq_wk (ag_JJ T k) m s0 go → n ≤ m) : gq_wk (ag_JJ T k) n s0 go := by
  obtain ⟨m, h1, h2⟩ := ag_JC_wk hk s0l hw
  have := hm m h2
  rw [show n = m by omega]
  exact h2
/-- all alone and nobody in the way -/
theorem ag_apart {T : Nat → Int32} {t : Nat} (ht : t < 8) {p q : Nat → Nat} (hp : ∀ w, w < 3 → p w < 12) {P : Nat → Nat → Nat} (hA : ag_AW T t p q P 12) {s0 go : Nat} (s0l : s0 < ag_bd (ag_kc t 3)) (gol : go < ag_bd (ag_kc t 3)) (s0c : ∀ i, i < ag_kc t 3 → ag_ce s0 i = p (ag_wh t i)) (goc : ∀ i, i < ag_kc t 3 → ag_ce go i = q (ag_wh t i))
    {n : Nat} (hn : n ≤ 12) (hd : ∀ w, w < 3 → ag_bt t w → ag_dd T (q w) (p w) ≤ n) : gq_wk (ag_JC T (ag_kc t 3)) n s0 go := by
  have hk := (ag_kc_3 t ht).1
  have wok : ∀ i, i < ag_kc t 3 → ag_bt t (ag_wh t i) ∧ ag_wh t i < 3 ∧ ag_kc t (ag_wh t i) = i := fun i hi => ag_wh_ok t ht i (by omega) hi
  refine ag_join hk (Q := fun i m => P (ag_wh t i) m) (fun i hi m hm => ag_AW_lt hp hA (wok i hi).2.1 (wok i hi).1 (by omega)) (fun i hi m hm => ag_AS_lazy ((hA.1 _ (wok i hi).2.1 (wok i hi).1).2 m (by omega))) (fun i j hij hj m hm => ?_) s0l gol (fun i hi => ?_) (fun i hi => ?_)
  · have h1 := hA.2 m (by omega) (ag_wh t i) (ag_wh t j) (ag_wh_mono t ht i (by omega) j (by omega) hij hj) (wok j hj).2.1 (wok i (by omega)).1 (wok j hj).1
    refine ⟨fun z => h1 (Or.inl z), fun z => h1 (Or.inr z)⟩
  · rw [s0c i hi]
    exact (hA.1 _ (wok i hi).2.1 (wok i hi).1).1.symm
  · rw [goc i hi]
    obtain ⟨w1, w2, _⟩ := wok i hi
    obtain ⟨a1, a2⟩ := hA.1 _ w2 w1
    have hd' := hd _ w2 w1
    rw [← a1] at hd'
    exact (ag_AS_at (n := 12) (by rw [a1]; exact hp _ w2) (by omega) a2 hn hd').symm
/-- two of three walkers -/
theorem ag_two {T : Nat → Int32} {i j s s' u u' : Nat} (hij : i < j) (hj : j < 3) (h : ag_JC T 3 s s') (ul' : u' < ag_bd 2) (u0 : ag_ce u 0 = ag_ce s i) (u1 : ag_ce u 1 = ag_ce s j) (v0 : ag_ce u' 0 = ag_ce s' i) (v1 : ag_ce u' 1 = ag_ce s' j) : ag_JC T 2 u u' := by
  refine ⟨ul', fun a ha => ?_, fun a b hab hb => ?_⟩
  · have : a = 0 ∨ a = 1 := by omega
    rcases this with z | z <;> subst z
    · rw [u0, v0]; exact h.2.1 i (by omega)
    · rw [u1, v1]; exact h.2.1 j hj
  · have e1 : a = 0 := by omega
    have e2 : b = 1 := by omega
    subst e1
    subst e2
    rw [u0, u1, v0, v1]
    exact h.2.2 i j hij hj
theorem ag_two_wk {T : Nat → Int32} {i j : Nat} (hij : i < j) (hj : j < 3) : ∀ {n s s' u u'}, gq_wk (ag_JC T 3) n s s' → u < ag_bd 2 → u' < ag_bd 2 → ag_ce u 0 = ag_ce s i → ag_ce u 1 = ag_ce s j → ag_ce u' 0 = ag_ce s' i → ag_ce u' 1 = ag_ce s' j → gq_wk (ag_JC T 2) n u u' := by
  intro n
  induction n with
  | zero =>
    intro s s' u u' h l l' u0 u1 v0 v1
    have h' : s = s' := h
    subst h'
    refine ag_ce_ext (by omega) l l' (fun a ha => ?_)
    have : a = 0 ∨ a = 1 := by omega
    rcases this with z | z <;> subst z
    · rw [u0, v0]
    · rw [u1, v1]
  | succ n ih =>
    intro s s' u u' h l l' u0 u1 v0 v1
    obtain ⟨d, h1, h2⟩ := h
    obtain ⟨y, y1, y2⟩ := ag_enc (fun a => if a = 0 then ag_ce d i else ag_ce d j) 2 (by omega) (fun a _ => by
      by_cases c : a = 0
      · rw [if_pos c]; exact ag_ce_lt _ _
      · rw [if_neg c]; exact ag_ce_lt _ _)
    have y0 : ag_ce y 0 = ag_ce d i := (y2 0 (by omega)).trans (if_pos rfl)
    have y1' : ag_ce y 1 = ag_ce d j := (y2 1 (by omega)).trans (if_neg (by omega))
    exact ⟨y, ag_two hij hj h1 y1 u0 u1 y0 y1', ih h2 y1 l' y0 y1' v0 v1⟩
/-- a pair planned together and a third one who isn't in their way -/
theorem ag_third {T : Nat → Int32} {i j l : Nat} (hij : i < j) (hj : j < 3) (hl : l < 3) (hli : l ≠ i) (hlj : l ≠ j) {p q : Nat → Nat} (hp : ∀ w, w < 3 → p w < 12) {s0 go : Nat} (s0l : s0 < ag_bd 3) (gol : go < ag_bd 3) (s0c : ∀ w, w < 3 → ag_ce s0 w = p w) (goc : ∀ w, w < 3 → ag_ce go w = q w)
    {N : Nat} {P : Nat → Nat} (hP : ∀ m, m < N → ag_JC T 2 (P m) (P (m + 1))) (P0 : ag_ce (P 0) 0 = p i ∧ ag_ce (P 0) 1 = p j) (Pn : ag_ce (P N) 0 = q i ∧ ag_ce (P N) 1 = q j) {M : Nat} {X : Nat → Nat} (X0 : X 0 = p l) (hX : ∀ m, m < M → ag_AS T (q l) (X m) (X (m + 1)))
    (hm : ∀ m, m < M → ¬ ag_meet (ag_ce (P (min m N)) 0) (ag_ce (P (min (m + 1) N)) 0) (X m) (X (m + 1)) ∧ ¬ ag_meet (ag_ce (P (min m N)) 1) (ag_ce (P (min (m + 1) N)) 1) (X m) (X (m + 1)))
    (hf : ag_dd T (q l) (p l) < 1000000) (hdq : ag_ce (P N) 0 ≠ ag_ce (P N) 1) {n : Nat} (hnM : n ≤ M) (hnN : N ≤ n) (hnd : ag_dd T (q l) (p l) ≤ n) : gq_wk (ag_JC T 3) n s0 go := by
  have tri : ∀ w, w < 3 → w = i ∨ w = j ∨ w = l := by
    intro w hw
    omega
  have step : ∀ m, m < n → ag_JC T 2 (P (min m N)) (P (min (m + 1) N)) ∨ (P (min (m + 1) N) = P (min m N) ∧ min m N = N) := by
    intro m hm
    rcases Nat.lt_or_ge m N with c | c
    · rw [show min m N = m by omega, show min (m + 1) N = m + 1 by omega]
      exact Or.inl (hP m c)
    · rw [show min m N = N by omega, show min (m + 1) N = N by omega]
      exact Or.inr ⟨rfl, rfl⟩
  have clr : ∀ m, m < n → ag_ce (P (min (m + 1) N)) 0 ≠ ag_ce (P (min (m + 1) N)) 1 ∧ ¬ (ag_ce (P (min (m + 1) N)) 0 = ag_ce (P (min m N)) 1 ∧ ag_ce (P (min (m + 1) N)) 1 = ag_ce (P (min m N)) 0) := by
    intro m hm
    rcases step m hm with z | z
    · exact z.2.2 0 1 (by omega) (by omega)
    · rw [z.1, z.2]
      exact ⟨hdq, fun y => hdq y.1⟩
  have lz : ∀ a, a < 2 → ∀ m, m < n → ag_ce (P (min (m + 1) N)) a = ag_ce (P (min m N)) a ∨ ag_E T (ag_ce (P (min m N)) a) (ag_ce (P (min (m + 1) N)) a) := by
    intro a ha m hm
    rcases step m hm with z | z
    · exact z.2.1 a ha
    · rw [z.1]; exact Or.inl rfl
  have hQ : ∃ Q : Nat → Nat → Nat, (∀ m, Q i m = ag_ce (P (min m N)) 0) ∧ (∀ m, Q j m = ag_ce (P (min m N)) 1) ∧ (∀ m, Q l m = X m) := ⟨fun w m => if w = i then ag_ce (P (min m N)) 0 else if w = j then ag_ce (P (min m N)) 1 else X m, fun m => if_pos rfl, fun m => (if_neg (by omega)).trans (if_pos rfl), fun m => (if_neg hli).trans (if_neg hlj)⟩
  obtain ⟨Q, Qi, Qj, Ql⟩ := hQ
  refine ag_join (by omega) (Q := Q) (fun w hw m hm => ?_) (fun w hw m hm => ?_) (fun a b hab hb m hm' => ?_) s0l gol (fun w hw => ?_) (fun w hw => ?_)
  · rcases tri w hw with z | z | z <;> rw [z]
    · rw [Qi]; exact ag_ce_lt _ _
    · rw [Qj]; exact ag_ce_lt _ _
    · rw [Ql]
      cases m with
      | zero => rw [X0]; exact hp l hl
      | succ m => exact (hX m (by omega)).1
  · rcases tri w hw with z | z | z <;> rw [z]
    · rw [Qi, Qi]; exact lz 0 (by omega) m hm
    · rw [Qj, Qj]; exact lz 1 (by omega) m hm
    · rw [Ql, Ql]; exact ag_AS_lazy (hX m (by omega))
  · have c1 := clr m hm'
    have c2 := hm m (by omega)
    have sym : ∀ x x' y y' : Nat, ¬ ag_meet x x' y y' → (x' ≠ y' ∧ ¬ (x' = y ∧ y' = x)) ∧ (y' ≠ x' ∧ ¬ (y' = x ∧ x' = y)) := fun x x' y y' h => ⟨⟨fun z => h (Or.inl z), fun z => h (Or.inr z)⟩, ⟨fun z => h (Or.inl z.symm), fun z => h (Or.inr ⟨z.2, z.1⟩)⟩⟩
    have s1 := sym _ _ _ _ c2.1
    have s2 := sym _ _ _ _ c2.2
    rcases tri a (by omega) with z | z | z <;> rcases tri b hb with y | y | y <;> (first | omega | skip) <;> rw [z, y]
    · rw [Qi, Qi, Qj, Qj]; exact c1
    · rw [Qi, Qi, Ql, Ql]; exact s1.1
    · rw [Qj, Qj, Ql, Ql]; exact s2.1
    · rw [Ql, Ql, Qi, Qi]; exact s1.2
    · rw [Ql, Ql, Qj, Qj]; exact s2.2
  · rw [s0c w hw]
    rcases tri w hw with z | z | z <;> rw [z]
    · rw [Qi, show min 0 N = 0 by omega]; exact P0.1.symm
    · rw [Qj, show min 0 N = 0 by omega]; exact P0.2.symm
    · rw [Ql]; exact X0.symm
  · rw [goc w hw]
    rcases tri w hw with z | z | z <;> rw [z]
    · rw [Qi, show min n N = N by omega]; exact Pn.1.symm
    · rw [Qj, show min n N = N by omega]; exact Pn.2.symm
    · rw [Ql]
      rw [← X0] at hf hnd
      exact (ag_AS_at (by rw [X0]; exact hp l hl) hf hX hnM hnd).symm
end
section
/-! bits (rows of the kit's BITS.to-paste, turned) -/
def bi_t (x : Int32) (i : Nat) : Bool := x.toBitVec.getLsbD i
theorem bi_ext {x y : Int32} (h : ∀ i, i < 32 → bi_t x i = bi_t y i) : x = y := Int32.toBitVec_inj.mp (BitVec.eq_of_getLsbD_eq (fun i hi => h i hi))
theorem bi_or (x y : Int32) (i : Nat) : bi_t (x ||| y) i = (bi_t x i || bi_t y i) := by unfold bi_t; rw [Int32.toBitVec_or, BitVec.getLsbD_or]
theorem bi_and (x y : Int32) (i : Nat) : bi_t (x &&& y) i = (bi_t x i && bi_t y i) := by unfold bi_t; rw [Int32.toBitVec_and, BitVec.getLsbD_and]
theorem bi_0 (i : Nat) : bi_t 0 i = false := BitVec.getLsbD_zero
theorem bi_sl : ∀ n, n < 32 → ((nI n &&& 31).toBitVec.smod 32).toNat = n := by decide +kernel
theorem bi_sshr (n : Nat) (hn : n < 32) (x : Int32) {i : Nat} (hi : i < 32) : bi_t (x >>> (nI n &&& 31)) i = if n + i < 32 then bi_t x (n + i) else bi_t x 31 := by
  unfold bi_t
  rw [Int32.toBitVec_shiftRight]
  show (x.toBitVec.sshiftRight ((nI n &&& 31).toBitVec.smod 32).toNat).getLsbD i = _
  rw [bi_sl n hn, BitVec.getLsbD_sshiftRight, BitVec.msb_eq_getLsbD_last]
  simp [hi]
theorem bi_1 : ∀ i, i < 32 → bi_t 1 i = decide (i = 0) := by decide +kernel
theorem bi_p : ∀ c, c < 12 → bi_t ((1 : Int32) <<< (nI c &&& 31)) c = true := by decide +kernel
theorem ag_opn_bi {w : Int32} {c : Nat} (hc : c < 12) (h : bi_t w c = false) : ag_opn w c := by
  unfold ag_opn
  apply bi_ext
  intro i hi
  rw [bi_and, bi_0, bi_1 i hi]
  by_cases e : i = 0
  · rw [e, bi_sshr c (by omega) w (by omega), if_pos (by omega), Nat.add_zero, h]
    rfl
  · rw [decide_eq_false e, Bool.and_false]
/-- the mask of what the first walkers of x hold -/
def ag_mk (x : Int32) (a : Nat → Int32) : Nat → Int32
  | 0 => 0
  | i + 1 => if ((x >>> (nI i &&& 31)) &&& 1) = 1 then ag_mk x a i ||| ((1 : Int32) <<< (a i &&& 31)) else ag_mk x a i
def ag_rc (w x : Int32) (b c : Nat → Int32) (i : Nat) : Prop := ((x >>> (nI i &&& 31)) &&& 1) = 1 → (ag_mk x b i &&& ((1 : Int32) <<< (b i &&& 31))) = 0 ∧ (ag_mk x c i &&& ((1 : Int32) <<< (c i &&& 31))) = 0 ∧ (w &&& (((1 : Int32) <<< (b i &&& 31)) ||| ((1 : Int32) <<< (c i &&& 31)))) = 0
def ag_rdy (w pd x : Int32) (b c : Nat → Int32) : Prop := ¬ x < 1 ∧ ¬ 7 < x ∧ (x &&& (pd ^^^ (-1))) = 0 ∧ ∀ i, i < 3 → ag_rc w x b c i
section
variable {wl pd ct ef be pf ps tn : Int32} {a1 a2 a3 a4 a5 a6 a7 a8 a9 a10 a11 a12 a13 a14 a15 a16 a17 a18 a19 a20 a21 : Nat → Int32}
theorem ag_isReady {post : Int32 → Prop} {x : Int32} (H1 : ag_rdy wl pd x a2 a3 → post 1) (H0 : ¬ ag_rdy wl pd x a2 a3 → post 0) : wpX_isReady post (wl, pd, ct, ef, be, pf, ps, tn, a1, a2, a3, a4, a5, a6, a7, a8, a9, a10, a11, a12, a13, a14, a15, a16, a17, a18, a19, a20, a21) x := by
  refine br_c (fun z => H0 (fun y => y.1 z)) (fun z1 => br_c (fun z => H0 (fun y => y.2.1 z)) (fun z2 => br_c (fun z3 => ?_) (fun z => H0 (fun y => z y.2.2.1))))
  refine pk_loop (σ := Unit) (fun n i _ => wX_isReady_31 post x wl pd ct ef be pf ps tn a1 a2 a3 a4 a5 a6 a7 a8 a9 a10 a11 a12 a13 a14 a15 a16 a17 a18 a19 a20 a21 n (ag_mk x a2 i) (ag_mk x a3 i) (nI i)) (fun i _ => ∀ j, j < i → ag_rc wl x a2 a3 j) 3 0 () (by omega) (fun j hj => absurd hj (by omega)) ?_ ?_
  · intro n _ h
    exact pk_le 3 3 (fun _ => H1 ⟨z1, z2, z3, h⟩) (fun z => absurd z (by omega))
  · intro n i _ hi h hw
    refine pk_le 3 i (fun z => absurd z (by omega)) (fun _ => br_c (fun y => ?_) (fun y => nm_r (nI_1 i) ?_))
    · refine ⟨pk_in i 3 hi, nm_r (e' := (1 : Int32) <<< (a2 i &&& 31)) (by rw [nI_clamp (by omega)]) ⟨pk_in i 3 hi, nm_r (e' := (1 : Int32) <<< (a3 i &&& 31)) (by rw [nI_clamp (by omega)]) ?_⟩⟩
      refine br_c (fun c1 => br_c (fun c2 => br_c (fun c3 => nm_e (nm_e (nm_r (nI_1 i) ?_))) (fun c => H0 (fun v => c (v.2.2.2 i hi y).2.2))) (fun c => H0 (fun v => c (v.2.2.2 i hi y).2.1))) (fun c => H0 (fun v => c (v.2.2.2 i hi y).1))
      have e1 : ag_mk x a2 (i + 1) = ag_mk x a2 i ||| ((1 : Int32) <<< (a2 i &&& 31)) := if_pos y
      have e2 : ag_mk x a3 (i + 1) = ag_mk x a3 i ||| ((1 : Int32) <<< (a3 i &&& 31)) := if_pos y
      have hw := hw ()
      rw [e1, e2] at hw
      refine hw (fun j hj => ?_)
      by_cases e : j = i
      · rw [e]; exact fun _ => ⟨c1, c2, c3⟩
      · exact h j (by omega)
    · have e1 : ag_mk x a2 (i + 1) = ag_mk x a2 i := if_neg y
      have e2 : ag_mk x a3 (i + 1) = ag_mk x a3 i := if_neg y
      have hw := hw ()
      rw [e1, e2] at hw
      refine hw (fun j hj => ?_)
      by_cases e : j = i
      · rw [e]; exact fun z => absurd z y
      · exact h j (by omega)
end
theorem ag_mk_bit {t : Nat} (ht : t < 8) {a : Nat → Int32} {p : Nat → Nat} (hp : ∀ w, w < 3 → a w = nI (p w) ∧ p w < 12) {i : Nat} (hb : ag_bt t i) : ∀ j, j ≤ 3 → i < j → bi_t (ag_mk (nI t) a j) (p i) = true := by
  intro j
  induction j with
  | zero => intro _ h; omega
  | succ j ih =>
    intro hj h
    by_cases y : ((nI t >>> (nI j &&& 31)) &&& 1) = 1
    · have e1 : ag_mk (nI t) a (j + 1) = ag_mk (nI t) a j ||| ((1 : Int32) <<< (a j &&& 31)) := if_pos y
      rw [e1, bi_or]
      by_cases e : i = j
      · rw [e, (hp j (by omega)).1, bi_p _ (hp j (by omega)).2, Bool.or_true]
      · rw [ih (by omega) (by omega), Bool.true_or]
    · have e1 : ag_mk (nI t) a (j + 1) = ag_mk (nI t) a j := if_neg y
      rw [e1]
      refine ih (by omega) ?_
      have : i ≠ j := fun e => y ((ag_bit t ht j (by omega)).mpr (by rw [← e]; exact hb))
      omega
/-- what it means to be ready -/
theorem ag_rdy_ok {w pd x : Int32} {b c : Nat → Int32} {p q : Nat → Nat} (hp : ∀ w, w < 3 → b w = nI (p w) ∧ p w < 12) (hq : ∀ w, w < 3 → c w = nI (q w) ∧ q w < 12) (h : ag_rdy w pd x b c) :
    ∃ t, x = nI t ∧ t < 8 ∧ 1 ≤ t ∧ (∀ i j, i < j → j < 3 → ag_bt t i → ag_bt t j → p i ≠ p j ∧ q i ≠ q j) ∧ (∀ i, i < 3 → ag_bt t i → ag_opn w (p i) ∧ ag_opn w (q i)) := by
  obtain ⟨h1, h2, h3, h4⟩ := h
  have hx : ∃ t, t < 2 ^ 31 ∧ x = nI t := nI_of (fun z => h1 (Int32.lt_of_lt_of_le z (by decide)))
  obtain ⟨t, ht, rfl⟩ := hx
  have t8 : t < 8 := by
    rcases Nat.lt_or_ge t 8 with z | z
    · exact z
    · exact absurd (nI_lt (a := 7) (b := t) (by omega) ht) h2
  have t1 : 1 ≤ t := by
    rcases Nat.lt_or_ge t 1 with z | z
    · exact absurd (nI_lt (a := t) (b := 1) z (by omega)) h1
    · exact z
  refine ⟨t, rfl, t8, t1, fun i j hij hj bi bj => ?_, fun i hi hb => ?_⟩
  · obtain ⟨c1, c2, _⟩ := h4 j hj ((ag_bit t t8 j hj).mpr bj)
    refine ⟨fun e => ?_, fun e => ?_⟩
    · have := congrArg (fun v => bi_t v (p j)) c1
      rw [bi_and, bi_0, (hp j hj).1, bi_p _ (hp j hj).2, Bool.and_true, ← e, ag_mk_bit t8 hp bi j (by omega) hij] at this
      exact absurd this (by decide)
    · have := congrArg (fun v => bi_t v (q j)) c2
      rw [bi_and, bi_0, (hq j hj).1, bi_p _ (hq j hj).2, Bool.and_true, ← e, ag_mk_bit t8 hq bi j (by omega) hij] at this
      exact absurd this (by decide)
  · obtain ⟨_, _, c3⟩ := h4 i hi ((ag_bit t t8 i hi).mpr hb)
    refine ⟨ag_opn_bi (hp i hi).2 ?_, ag_opn_bi (hq i hi).2 ?_⟩
    · have := congrArg (fun v => bi_t v (p i)) c3
      rw [bi_and, bi_0, bi_or, (hp i hi).1, bi_p _ (hp i hi).2, Bool.true_or, Bool.and_true] at this
      exact this
    · have := congrArg (fun v => bi_t v (q i)) c3
      rw [bi_and, bi_0, bi_or, (hq i hi).1, bi_p _ (hq i hi).2, Bool.or_true, Bool.and_true] at this
      exact this
end
section
section
variable {wl pd ct ef be pf ps tn : Int32} {a1 a2 a3 a4 a5 a6 a7 a8 a9 a10 a11 a12 a13 a14 a15 a16 a17 a18 a19 a20 a21 : Nat → Int32}
theorem ag_layWay {post : St1 → Prop} {k : Nat} (hk : k ≤ 3) {wh v : Nat → Nat} (h7 : ∀ i, i < k → a7 i = nI (wh i) ∧ wh i < 3) (hv : ∀ i, i < k → a3 (wh i) = nI (v i) ∧ v i < 12) {n : Nat} {P : Nat → Nat} (Pl : ∀ j, j ≤ n → P j < 1728) (nl : n < 1728) (inj : ∀ i j, i ≤ n → j ≤ n → P i = P j → i = j)
    (h9 : ∀ j, j < n → a9 (P (j + 1)) = nI (P j)) (h90 : a9 (P 0) = nI (P 0)) (gl : P n < ag_bd k) (gc : ∀ i, i < k → ag_ce (P n) i = v i)
    (H : ∀ b, (∀ j, j < n → b (P j) = nI (P (j + 1))) → b (P n) = nI (P n) → post (wl, pd, nI k, ef, be, pf, ps, tn, a1, a2, a3, a4, a5, a6, a7, a8, a9, a10, b, a12, a13, a14, a15, a16, a17, a18, a19, a20, a21)) : wpX_layWay post (wl, pd, nI k, ef, be, pf, ps, tn, a1, a2, a3, a4, a5, a6, a7, a8, a9, a10, a11, a12, a13, a14, a15, a16, a17, a18, a19, a20, a21) := by
  refine ag_stateOf hk h7 (fun i hi => ⟨fun z => absurd z (by decide), fun _ => (hv i hi).1, (hv i hi).2⟩) (fun go gol goc => ?_)
  have e : go = P n := ag_ce_ext hk gol gl (fun i hi => by rw [goc i hi, gc i hi])
  subst e
  have gol' := Pl n (Nat.le_refl _)
  refine ⟨pk_in (P n) 1728 gol', nm_r (e' := upd a11 (P n) (nI (P n))) (by rw [nI_clamp (by omega)]) ?_⟩
  refine pk_loop (fun m i s => wX_layWay_15 post wl pd (nI k) ef be pf ps tn m (nI (P (n - i))) (nI i) a1 a2 a3 a4 a5 a6 a7 a8 a9 a10 s a12 a13 a14 a15 a16 a17 a18 a19 a20 a21) (fun i s => (∀ j, n - i ≤ j → j < n → s (P j) = nI (P (j + 1))) ∧ s (P n) = nI (P n)) n 0 (upd a11 (P n) (nI (P n))) (by omega) ⟨fun j h1 h2 => absurd h2 (by omega), pk_us⟩ ?_ ?_
  · rintro m s ⟨f1, f2⟩
    try dsimp only
    rw [Nat.sub_self]
    refine pk_le 1728 n (fun z => absurd z (by omega)) (fun _ => ⟨pk_in (P 0) 1728 (Pl 0 (by omega)), br_t ?_ (H s (fun j hj => f1 j (by omega) hj) f2)⟩)
    have := Pl 0 (by omega)
    rw [nI_clamp (by omega), h90]
  · rintro m i s hi ⟨f1, f2⟩ hw
    try dsimp only at hw ⊢
    have ej : n - i = (n - (i + 1)) + 1 := by omega
    have l1 := Pl (n - i) (by omega)
    have l2 := Pl (n - (i + 1)) (by omega)
    have e9 : a9 (nI (P (n - i))).toNatClampNeg = nI (P (n - (i + 1))) := by
      rw [nI_clamp (by omega)]
      have := h9 (n - (i + 1)) (by omega)
      rw [← ej] at this
      exact this
    have ne : P (n - (i + 1)) ≠ P (n - i) := fun z => absurd (inj _ _ (by omega) (by omega) z) (by omega)
    refine pk_le 1728 i (fun z => absurd z (by omega)) (fun _ => ⟨pk_in _ 1728 l1, pk_eq (P (n - (i + 1))) (P (n - i)) (fun z => absurd z ne) (fun _ => ⟨pk_in _ 1728 l1, pk_in _ 1728 l2 e9, ?_⟩) e9 rfl (by omega) (by omega)⟩)
    refine nm_r (e' := upd s (P (n - (i + 1))) (nI (P (n - i)))) (by rw [e9, nI_clamp (by omega)]) ⟨pk_in _ 1728 l1, nm_r e9 (nm_r (nI_1 i) (hw _ ⟨fun j h1 h2 => ?_, ?_⟩))⟩
    · by_cases z : j = n - (i + 1)
      · rw [z, pk_us, ← ej]
      · rw [pk_un (fun y => z (inj _ _ (by omega) (by omega) y))]
        exact f1 j (by omega) h2
    · rw [pk_un (fun y => absurd (inj _ _ (by omega) (by omega) y) (by omega))]
      exact f2
theorem ag_clashWithThird {post : Int32 → Prop} {T : Nat → Int32} (hT : ag_TOK T) (h4 : ∀ j, j < 48 → a4 j = T j) {p q : Nat → Nat} (hp : ∀ w, w < 3 → a2 w = nI (p w) ∧ p w < 12) (hq : ∀ w, w < 3 → a3 w = nI (q w) ∧ q w < 12) {wh : Nat → Nat} (h7 : ∀ i, i < 2 → a7 i = nI (wh i) ∧ wh i < 3) {l : Nat} (hl : l < 3) (h5 : ∀ c, c < 12 → a5 (12 * l + c) = nI (ag_dd T (q l) c)) (hf : ag_dd T (q l) (p l) < 1000000)
    {n : Nat} {P : Nat → Nat} (Pl : ∀ j, j ≤ n → P j < 144) (nl : n < 1728) (inj : ∀ i j, i ≤ n → j ≤ n → P i = P j → i = j) (P0 : ∀ i, i < 2 → ag_ce (P 0) i = p (wh i)) (Pn : ∀ i, i < 2 → ag_ce (P n) i = q (wh i)) (h11 : ∀ j, j < n → a11 (P j) = nI (P (j + 1))) (h11n : a11 (P n) = nI (P n)) (H1 : post 1)
    (H0 : ∀ (M : Nat) (X : Nat → Nat), X 0 = p l → n ≤ M → ag_dd T (q l) (p l) ≤ M → (∀ m, m < M → ag_AS T (q l) (X m) (X (m + 1))) → (∀ m, m < M → ¬ ag_meet (ag_ce (P (min m n)) 0) (ag_ce (P (min (m + 1) n)) 0) (X m) (X (m + 1)) ∧ ¬ ag_meet (ag_ce (P (min m n)) 1) (ag_ce (P (min (m + 1) n)) 1) (X m) (X (m + 1))) → post 0) : wpX_clashWithThird post (wl, pd, nI 2, ef, be, pf, ps, tn, a1, a2, a3, a4, a5, a6, a7, a8, a9, a10, a11, a12, a13, a14, a15, a16, a17, a18, a19, a20, a21) (nI l) := by
  refine ag_stateOf (k := 2) (by omega) h7 (fun i hi => ⟨fun _ => (hp _ (h7 i hi).2).1, fun z => absurd rfl z, (hp _ (h7 i hi).2).2⟩) (fun s0 s0l s0c => ?_)
  have e0 : s0 = P 0 := ag_ce_ext (by omega) s0l (Pl 0 (by omega)) (fun i hi => by rw [s0c i hi, P0 i hi])
  subst e0
  refine ag_stateOf (k := 2) (by omega) h7 (fun i hi => ⟨fun z => absurd z (by decide), fun _ => (hq _ (h7 i hi).2).1, (hq _ (h7 i hi).2).2⟩) (fun go gol goc => ?_)
  have e1 : go = P n := ag_ce_ext (by omega) gol (Pl n (by omega)) (fun i hi => by rw [goc i hi, Pn i hi])
  subst e1
  refine ⟨pk_in l 3 hl, nm_r (e' := nI (p l)) (by rw [nI_clamp (by omega)]; exact (hp l hl).1) ?_⟩
  have key : ∃ f, (fun (f i x : Nat) => wX_clashWithThird_23 post (nI l) (nI (P n)) wl pd (nI 2) ef be pf ps tn a1 a2 a3 a4 a5 a6 a7 a8 a9 a10 a11 a12 a13 a14 a15 a16 a17 a18 a19 a20 a21 f (nI (P (min i n))) (nI x) (nI i)) f 0 (p l) := by
    refine pk_loop (fun (f i x : Nat) => wX_clashWithThird_23 post (nI l) (nI (P n)) wl pd (nI 2) ef be pf ps tn a1 a2 a3 a4 a5 a6 a7 a8 a9 a10 a11 a12 a13 a14 a15 a16 a17 a18 a19 a20 a21 f (nI (P (min i n))) (nI x) (nI i)) (fun i x => ∃ X : Nat → Nat, X 0 = p l ∧ X i = x ∧ (∀ m, m < i → ag_AS T (q l) (X m) (X (m + 1))) ∧ (∀ m, m < i → ¬ ag_meet (ag_ce (P (min m n)) 0) (ag_ce (P (min (m + 1) n)) 0) (X m) (X (m + 1)) ∧ ¬ ag_meet (ag_ce (P (min m n)) 1) (ag_ce (P (min (m + 1) n)) 1) (X m) (X (m + 1)))) 1740 0 (p l) (by omega) ⟨fun _ => p l, rfl, rfl, fun m hm => absurd hm (by omega), fun m hm => absurd hm (by omega)⟩ ?_ ?_
    · rintro f x ⟨X, x0, xi, f1, f2⟩
      refine pk_le 1740 1740 (fun _ => H0 1740 X x0 (by omega) ?_ f1 f2) (fun z => absurd z (by omega))
      rcases ag_dd_cases (T := T) (g := q l) (hp l hl).2 with z | z
      · omega
      · omega
    · rintro f i x hi ⟨X, x0, xi, f1, f2⟩ hw
      try dsimp only at hw ⊢
      have xl : x < 12 := by
        rw [← xi]
        cases i with
        | zero => rw [x0]; exact (hp l hl).2
        | succ i => exact (f1 i (by omega)).1
      have pl := Pl (min i n) (by omega)
      have pl2 := Pl (min (i + 1) n) (by omega)
      refine pk_le 1740 i (fun z => absurd z (by omega)) (fun _ => ?_)
      refine ag_nextAlone hT h4 hl xl h5 (fun c' hA => ?_)
      have e11 : a11 (nI (P (min i n))).toNatClampNeg = nI (P (min (i + 1) n)) := by
        rw [nI_clamp (by omega)]
        rcases Nat.lt_or_ge i n with c | c
        · rw [show min i n = i by omega, show min (i + 1) n = i + 1 by omega]
          exact h11 i c
        · rw [show min i n = n by omega, show min (i + 1) n = n by omega]
          exact h11n
      have d0 : ∀ s, ag_ce s 0 = s % 12 := fun _ => rfl
      have d1 : ∀ s, s < 144 → ag_ce s 1 = s / 12 := fun s hs => by
        show s / 12 % 12 = s / 12
        omega
      have c'l := hA.1
      refine ⟨pk_in (P (min i n)) 1728 (by omega), nm_r e11 ⟨by decide, by decide, ?_⟩⟩
      rw [ag_rem12 (by omega), ag_rem12 (by omega), ag_div12 (show P (min i n) < 2 ^ 31 by omega), ag_div12 (show P (min (i + 1) n) < 2 ^ 31 by omega), ← d0, ← d0, ← d1 _ pl, ← d1 _ pl2]
      have l1 := ag_ce_lt (P (min i n)) 0
      have l2 := ag_ce_lt (P (min i n)) 1
      have l3 := ag_ce_lt (P (min (i + 1) n)) 0
      have l4 := ag_ce_lt (P (min (i + 1) n)) 1
      have go2 : ¬ ag_meet (ag_ce (P (min i n)) 0) (ag_ce (P (min (i + 1) n)) 0) x c' → ¬ ag_meet (ag_ce (P (min i n)) 1) (ag_ce (P (min (i + 1) n)) 1) x c' → wX_clashWithThird_23 post (nI l) (nI (P n)) wl pd (nI 2) ef be pf ps tn a1 a2 a3 a4 a5 a6 a7 a8 a9 a10 a11 a12 a13 a14 a15 a16 a17 a18 a19 a20 a21 f (nI (P (min (i + 1) n))) (nI c') (nI (i + 1)) := by
        intro m1 m2
        have hX : ∃ X' : Nat → Nat, (∀ m, m ≤ i → X' m = X m) ∧ X' (i + 1) = c' := ⟨fun m => if m = i + 1 then c' else X m, fun m hm => if_neg (by omega), if_pos rfl⟩
        obtain ⟨X', g1, g2⟩ := hX
        refine hw c' ⟨X', by rw [g1 0 (by omega)]; exact x0, g2, fun m hm => ?_, fun m hm => ?_⟩
        · by_cases e : m = i
          · rw [e, g1 i (by omega), g2, xi]; exact hA
          · rw [g1 m (by omega), g1 (m + 1) (by omega)]; exact f1 m (by omega)
        · by_cases e : m = i
          · rw [e, g1 i (by omega), g2, xi]; exact ⟨m1, m2⟩
          · rw [g1 m (by omega), g1 (m + 1) (by omega)]; exact f2 m (by omega)
      refine ag_meetw (by omega) (by omega) (by omega) (by omega) (fun m1 => ⟨by decide, by decide, ?_⟩) (fun m1 => ⟨by decide, by decide, ?_⟩)
      · exact ag_meetw (by omega) (by omega) (by omega) (by omega) (fun m2 => br_f (by decide) H1) (fun m2 => br_f (by decide) H1)
      · refine ag_meetw (by omega) (by omega) (by omega) (by omega) (fun m2 => br_t rfl (br_f (by decide) H1)) (fun m2 => br_t rfl (br_t rfl ?_))
        refine pk_eq (P (min i n)) (P n) (fun z => pk_eq c' x (fun y => H0 i X x0 ?_ ?_ f1 f2) (fun y => nm_r (nI_1 i) (go2 m1 m2))) (fun z => nm_r (nI_1 i) (go2 m1 m2)) rfl rfl (by omega) (by have := Pl n (by omega); omega)
        · have := inj _ _ (by omega) (by omega) z
          omega
        · rw [← x0] at hf ⊢
          have e := ag_AS_dd hf f1 i (by omega)
          rw [xi] at e
          rcases hA.2 with ⟨_, v⟩ | ⟨v, _⟩
          · rcases v with v | v
            · omega
            · omega
          · exact absurd y (ag_E_ne hT xl v)
  exact key
end
theorem ag_ij {i j : Nat} (hij : i < j) (hj : j < 3) : (i = 0 ∧ j = 1) ∨ (i = 0 ∧ j = 2) ∨ (i = 1 ∧ j = 2) := by omega
theorem ag_grp : ∀ i, i < 3 → ∀ j, j < 3 → i < j → (2 ^ i + 2 ^ j < 8 ∧ 1 ≤ 2 ^ i + 2 ^ j ∧ ag_kc (2 ^ i + 2 ^ j) 3 = 2 ∧ ag_wh (2 ^ i + 2 ^ j) 0 = i ∧ ag_wh (2 ^ i + 2 ^ j) 1 = j ∧ ∀ w, w < 3 → ag_bt (2 ^ i + 2 ^ j) w → w = i ∨ w = j) := by
  intro i _ j hj hij
  rcases ag_ij hij hj with ⟨rfl, rfl⟩ | ⟨rfl, rfl⟩ | ⟨rfl, rfl⟩
  · exact ⟨by decide, by decide, by decide, by decide, by decide, by decide⟩
  · exact ⟨by decide, by decide, by decide, by decide, by decide, by decide⟩
  · exact ⟨by decide, by decide, by decide, by decide, by decide, by decide⟩
theorem ag_t7 : ∀ t, t < 8 → ∀ i, i < 3 → ∀ j, j < 3 → i < j → ag_bt t i → ag_bt t j → t ≠ 2 ^ i + 2 ^ j → t = 7 := by
  intro t ht i _ j hj hij
  have h3 : ∀ t, t < 8 → ag_bt t 0 → ag_bt t 1 → t ≠ 3 → t = 7 := by decide
  have h5 : ∀ t, t < 8 → ag_bt t 0 → ag_bt t 2 → t ≠ 5 → t = 7 := by decide
  have h6 : ∀ t, t < 8 → ag_bt t 1 → ag_bt t 2 → t ≠ 6 → t = 7 := by decide
  rcases ag_ij hij hj with ⟨rfl, rfl⟩ | ⟨rfl, rfl⟩ | ⟨rfl, rfl⟩
  · exact h3 t ht
  · exact h5 t ht
  · exact h6 t ht
theorem ag_w7 : ag_kc 7 3 = 3 ∧ ∀ w, w < 3 → ag_wh 7 w = w ∧ ag_bt 7 w := by decide +kernel
theorem ag_single {post : Int32 → Prop} {i j : Nat} (hij : i < j) (hj : j < 3) (H : post (nI (3 - i - j))) : wpX_single post () (nI 7 &&& (nI (2 ^ i + 2 ^ j) ^^^ (-1))) := by
  have : (i = 0 ∧ j = 1) ∨ (i = 0 ∧ j = 2) ∨ (i = 1 ∧ j = 2) := by omega
  rcases this with ⟨rfl, rfl⟩ | ⟨rfl, rfl⟩ | ⟨rfl, rfl⟩
  · exact br_f (by decide) (br_f (by decide) H)
  · exact br_f (by decide) (br_t (by decide) H)
  · exact br_t (by decide) H
/-- a joint walk of the team holds one of the pair -/
theorem ag_sub {T : Nat → Int32} {t i j : Nat} (hij : i < j) (hj : j < 3) (ht : t = 2 ^ i + 2 ^ j ∨ t = 7) {p q : Nat → Nat} {s0 go u0 ug : Nat} (s0l : s0 < ag_bd (ag_kc t 3)) (gol : go < ag_bd (ag_kc t 3)) (s0c : ∀ a, a < ag_kc t 3 → ag_ce s0 a = p (ag_wh t a)) (goc : ∀ a, a < ag_kc t 3 → ag_ce go a = q (ag_wh t a))
    (u0l : u0 < ag_bd 2) (ugl : ug < ag_bd 2) (u0c : ag_ce u0 0 = p i ∧ ag_ce u0 1 = p j) (ugc : ag_ce ug 0 = q i ∧ ag_ce ug 1 = q j) {n : Nat} (h : gq_wk (ag_JJ T (ag_kc t 3)) n s0 go) : ∃ m, m ≤ n ∧ gq_wk (ag_JJ T 2) m u0 ug := by
  rcases ht with z | z
  · subst z
    obtain ⟨_, _, g3, g4, g5, _⟩ := ag_grp i (by omega) j hj hij
    rw [g3] at s0l gol s0c goc h
    have e0 : s0 = u0 := ag_ce_ext (k := 2) (by omega) s0l u0l (fun a ha => by
      rw [s0c a ha]
      have : a = 0 ∨ a = 1 := by omega
      rcases this with y | y <;> subst y
      · rw [g4, u0c.1]
      · rw [g5, u0c.2])
    have e1 : go = ug := ag_ce_ext (k := 2) (by omega) gol ugl (fun a ha => by
      rw [goc a ha]
      have : a = 0 ∨ a = 1 := by omega
      rcases this with y | y <;> subst y
      · rw [g4, ugc.1]
      · rw [g5, ugc.2])
    subst e0
    subst e1
    exact ⟨n, by omega, h⟩
  · subst z
    obtain ⟨g1, g2⟩ := ag_w7
    rw [g1] at s0l gol s0c goc h
    have w := ag_two_wk hij hj (ag_JJ_wkC h) u0l ugl (by rw [u0c.1, s0c i (by omega), (g2 i (by omega)).1]) (by rw [u0c.2, s0c j hj, (g2 j hj).1]) (by rw [ugc.1, goc i (by omega), (g2 i (by omega)).1]) (by rw [ugc.2, goc j hj, (g2 j hj).1])
    exact ag_JC_wk (by omega) u0l w
end
section
section
variable {wl pd ct ef be pf ps tn : Int32} {a1 a2 a3 a4 a5 a6 a7 a8 a9 a10 a11 a12 a13 a14 a15 a16 a17 a18 a19 a20 a21 : Nat → Int32}
theorem ag_plan {post : Int32 → St1 → Prop} {t : Nat} (ht : t < 8) (ht1 : 1 ≤ t) {p q : Nat → Nat} (hp : ∀ w, w < 3 → a2 w = nI (p w) ∧ p w < 12) (hq : ∀ w, w < 3 → a3 w = nI (q w) ∧ q w < 12) (hd : ∀ i j, i < j → j < 3 → ag_bt t i → ag_bt t j → p i ≠ p j ∧ q i ≠ q j)
    {s0 go : Nat} (s0l : s0 < ag_bd (ag_kc t 3)) (gol : go < ag_bd (ag_kc t 3)) (s0c : ∀ i, i < ag_kc t 3 → ag_ce s0 i = p (ag_wh t i)) (goc : ∀ i, i < ag_kc t 3 → ag_ce go i = q (ag_wh t i))
    (H : ∀ (r : Int32) (ctx bex pfx psx tnx : Int32) (a4x a5x a6x a7x a8x a9x a10x a11x a12x a13x a14x a15x a16x a17x a18x a19x a20x a21x : Nat → Int32), (∀ j, j < 48 → a4x j = ag_tab wl a1 j) → ag_PS (ag_tab wl a1) (ag_kc t 3) ef s0 go r → post r (wl, pd, ctx, ef, bex, pfx, psx, tnx, a1, a2, a3, a4x, a5x, a6x, a7x, a8x, a9x, a10x, a11x, a12x, a13x, a14x, a15x, a16x, a17x, a18x, a19x, a20x, a21x)) : wpX_plan post (wl, pd, ct, ef, be, pf, ps, tn, a1, a2, a3, a4, a5, a6, a7, a8, a9, a10, a11, a12, a13, a14, a15, a16, a17, a18, a19, a20, a21) (nI t) := by
  unfold wpX_plan
  dsimp only
  have hT := ag_tab_ok wl a1
  obtain ⟨hk, hk1', _⟩ := ag_kc_3 t ht
  have hk1 := hk1' ht1
  have wok : ∀ i, i < ag_kc t 3 → ag_bt t (ag_wh t i) ∧ ag_wh t i < 3 ∧ ag_kc t (ag_wh t i) = i := fun i hi => ag_wh_ok t ht i (by omega) hi
  have kw : ∀ w, w < 3 → ag_bt t w → ag_kc t w < ag_kc t 3 ∧ ag_ce s0 (ag_kc t w) = p w ∧ ag_ce go (ag_kc t w) = q w := by
    intro w hw hb
    obtain ⟨k1, k2⟩ := ag_wh_kc t ht w hw hb
    exact ⟨k2, by rw [s0c _ k2, k1], by rw [goc _ k2, k1]⟩
  have low : ∀ m, gq_wk (ag_JJ (ag_tab wl a1) (ag_kc t 3)) m s0 go → ∀ w, w < 3 → ag_bt t w → ag_dd (ag_tab wl a1) (q w) (p w) ≤ m ∧ ag_dd (ag_tab wl a1) (q w) (p w) < 12 := by
    intro m hm w hw hb
    obtain ⟨k1, k2, k3⟩ := kw w hw hb
    have := ag_walk_dd (ag_JJ_wkC hm) k1
    rw [k2, k3] at this
    exact this
  refine ag_findGoalDistances ht hq (fun b4 b5 b6 h4 h5 => ?_)
  dsimp only
  refine ag_alone ht hp (D := fun w => ag_dd (ag_tab wl a1) (q w) (p w)) (fun w hw hb => ⟨h5 w hw hb _ (hp w hw).2, ag_dd_lt (hp w hw).2⟩) (fun f hf => ?_)
  have fw : ∀ w, w < 3 → ag_bt t w → f w = ag_dd (ag_tab wl a1) (q w) (p w) := fun w hw hb => by rw [hf]; exact if_pos hb
  have fn : ∀ w, w < 3 → ¬ ag_bt t w → f w = 0 := fun w hw hb => by rw [hf]; exact if_neg hb
  by_cases hM : ag_mx f 3 = 1000000
  · rw [if_pos hM]
    refine br_f (by decide) (H _ _ _ _ _ _ _ _ _ _ _ _ _ _ _ _ _ _ _ _ _ _ _ _ h4 (Or.inl ⟨rfl, fun n hn => ?_⟩))
    obtain ⟨w, hw, e⟩ := ag_mx_ex (f := f) 3 (by omega)
    by_cases hb : ag_bt t w
    · rw [fw w hw hb] at e
      have := (low n hn w hw hb).2
      omega
    · rw [fn w hw hb] at e
      omega
  · rw [if_neg hM]
    have fin : ∀ w, w < 3 → ag_bt t w → ag_dd (ag_tab wl a1) (q w) (p w) ≤ 11 := by
      intro w hw hb
      have h1 := ag_mx_ge (f := f) 3 w hw
      rw [fw w hw hb] at h1
      have h2 : ag_mx f 3 ≤ 1000000 := ag_mx_le 3 (fun v hv => by
        by_cases hb : ag_bt t v
        · rw [fw v hv hb]; exact ag_dd_lt (hp v hv).2
        · rw [fn v hv hb]; omega)
      rcases ag_dd_cases (T := ag_tab wl a1) (g := q w) (hp w hw).2 with z | z
      · omega
      · omega
    have f11 : ∀ w, w < 3 → f w ≤ 11 := by
      intro w hw
      by_cases hb : ag_bt t w
      · rw [fw w hw hb]; exact fin w hw hb
      · rw [fn w hw hb]; omega
    have mx11 : ag_mx f 3 ≤ 11 := ag_mx_le 3 f11
    have sm33 : ag_sm f 3 ≤ 3 * 11 := ag_sm_le 3 f11
    have er : (if ef = 0 then nI (ag_mx f 3) else nI (ag_sm f 3)) = nI (if ef = 0 then ag_mx f 3 else ag_sm f 3) := by
      by_cases c : ef = 0
      · rw [if_pos c, if_pos c]
      · rw [if_neg c, if_neg c]
    rw [er]
    have vl : (if ef = 0 then ag_mx f 3 else ag_sm f 3) ≤ 33 := by
      by_cases c : ef = 0
      · rw [if_pos c]; omega
      · rw [if_neg c]; omega
    refine br_t (nI_pos' (by omega)) ?_
    refine ag_clashAlone ht hT h4 hp h5 (fun b15 b16 i j hij hj bi bj => ?_) (fun b15 b16 P hA => ?_)
    · dsimp only
      refine br_f (ag_2ne (by omega) hj) ?_
      obtain ⟨g1, g2, g3, g4, g5, g6⟩ := ag_grp i (by omega) j hj hij
      have tor : t = 2 ^ i + 2 ^ j ∨ t = 7 := by
        by_cases c : t = 2 ^ i + 2 ^ j
        · exact Or.inl c
        · exact Or.inr (ag_t7 t ht i (by omega) j hj hij bi bj c)
      have h5g : ∀ w, w < 3 → ag_bt (2 ^ i + 2 ^ j) w → ∀ c, c < 12 → b5 (12 * w + c) = nI (ag_dd (ag_tab wl a1) (q w) c) := by
        intro w hw hb
        rcases g6 w hw hb with z | z
        · rw [z]; exact h5 i (by omega) bi
        · rw [z]; exact h5 j hj bj
      refine ag_solve g1 g2 hT h4 hp hq h5g (fun bst u0 ug b7 b8 b9 b10 b13 b14 g og cl u0l ugl u0c ugc h7 r8 r9 inv hc => ?_) (fun bst u0 ug b7 b8 b9 b10 b13 b14 u0l ugl u0c ugc hno => ?_)
      · dsimp only
        have u0c0 := u0c 0 (by omega)
        have u0c1 := u0c 1 (by omega)
        have ugc0 := ugc 0 (by omega)
        have ugc1 := ugc 1 (by omega)
        rw [g4] at u0c0 ugc0
        rw [g5] at u0c1 ugc1
        have h70 := h7 0 (by omega)
        have h71 := h7 1 (by omega)
        rw [g4] at h70
        rw [g5] at h71
        obtain ⟨s1, ⟨N, P, P0, Pn, Nl, Ne, Pg, Pi, Ps⟩, s3, s4⟩ := ag_solved hT (by omega) (by omega) inv (ag_bd_lt u0l) (ag_bd_lt ugl) ugc hc
        rw [g3] at u0l ugl
        rw [g3]
        rw [g3] at Ps s3 s4
        have sub : ∀ {n : Nat}, gq_wk (ag_JJ (ag_tab wl a1) (ag_kc t 3)) n s0 go → ∃ m, m ≤ n ∧ gq_wk (ag_JJ (ag_tab wl a1) 2) m u0 ug := fun h => ag_sub hij hj tor s0l gol s0c goc u0l ugl ⟨u0c0, u0c1⟩ ⟨ugc0, ugc1⟩ h
        refine br_f (nI_pos (by omega)) ?_
        refine pk_eq (2 ^ i + 2 ^ j) t (fun z => H _ _ _ _ _ _ _ _ _ _ _ _ _ _ _ _ _ _ _ _ _ _ _ _ h4 (Or.inr ⟨g ug, rfl, by omega, ?_⟩)) (fun z => ?_) rfl rfl (by omega) (by omega)
        · have e0 : s0 = u0 := by
            rw [← z, g3] at s0l s0c
            refine ag_ce_ext (k := 2) (by omega) s0l u0l (fun a ha => ?_)
            rw [s0c a ha]
            have : a = 0 ∨ a = 1 := by omega
            rcases this with y | y <;> subst y
            · rw [g4, u0c0]
            · rw [g5, u0c1]
          have e1 : go = ug := by
            rw [← z, g3] at gol goc
            refine ag_ce_ext (k := 2) (by omega) gol ugl (fun a ha => ?_)
            rw [goc a ha]
            have : a = 0 ∨ a = 1 := by omega
            rcases this with y | y <;> subst y
            · rw [g4, ugc0]
            · rw [g5, ugc1]
          rw [← z, g3, e0, e1]
          refine ⟨⟨N, ?_⟩, s3, s4⟩
          have := ag_chain (R := ag_JJ (ag_tab wl a1) 2) (N := 0) (fun j hj => (Ps j hj).1)
          rw [P0, Pn] at this
          exact this
        · have t7 : t = 7 := tor.resolve_left (fun y => z y.symm)
          subst t7
          refine ag_single hij hj ?_
          have e9 : ∀ m, m < N → b9 (P (m + 1)) = nI (P m) := fun m hm => by
            rw [r9 _ (Pg (m + 1) (by omega)).1 (Pg (m + 1) (by omega)).2, (Ps m hm).2]
          have e90 : b9 (P 0) = nI (P 0) := by
            rw [r9 _ (Pg 0 (by omega)).1 (Pg 0 (by omega)).2, P0, inv.2.2.2.1]
          have h72 : ∀ a, a < 2 → b7 a = nI (if a = 0 then i else j) ∧ (if a = 0 then i else j) < 3 := by
            intro a ha
            have : a = 0 ∨ a = 1 := by omega
            rcases this with y | y <;> subst y
            · rw [if_pos rfl]; exact ⟨h70, by omega⟩
            · rw [if_neg (by omega)]; exact ⟨h71, hj⟩
          have Pl2 : ∀ m, m ≤ N → P m < ag_bd 2 := by
            intro m hm
            cases m with
            | zero => rw [P0]; exact u0l
            | succ m => exact ag_JJ_lt (Ps m (by omega)).1
          have PNc : ∀ a, a < 2 → ag_ce (P N) a = q (if a = 0 then i else j) := by
            intro a ha
            rw [Pn]
            have : a = 0 ∨ a = 1 := by omega
            rcases this with y | y <;> subst y
            · rw [if_pos rfl]; exact ugc0
            · rw [if_neg (by omega)]; exact ugc1
          have P0c : ∀ a, a < 2 → ag_ce (P 0) a = p (if a = 0 then i else j) := by
            intro a ha
            rw [P0]
            have : a = 0 ∨ a = 1 := by omega
            rcases this with y | y <;> subst y
            · rw [if_pos rfl]; exact u0c0
            · rw [if_neg (by omega)]; exact u0c1
          refine ag_layWay (k := 2) (by omega) h72 (v := fun a => q (if a = 0 then i else j)) (fun a ha => hq _ (h72 a ha).2) (fun m hm => (Pg m hm).1) Nl Pi e9 e90 (Pl2 N (Nat.le_refl _)) PNc (fun b11 w1 w2 => ?_)
          dsimp only
          have hl : 3 - i - j < 3 := by omega
          obtain ⟨w71, w72⟩ := ag_w7
          have bl := (w72 (3 - i - j) hl).2
          rw [w71] at s0l gol s0c goc hk hk1
          have s0c' : ∀ w, w < 3 → ag_ce s0 w = p w := fun w hw => by rw [s0c w hw, (w72 w hw).1]
          have goc' : ∀ w, w < 3 → ag_ce go w = q w := fun w hw => by rw [goc w hw, (w72 w hw).1]
          have own := fin _ hl bl
          refine ag_clashWithThird hT h4 hp hq h72 hl (h5 _ hl bl) (by omega) Pl2 Nl Pi P0c PNc w1 w2 ?_ (fun M X x0 hM1 hM2 hA hm => ?_)
          · refine br_f (by decide) ?_
            refine ag_solve (t := 7) (by omega) (by omega) hT h4 hp hq h5 (fun bst v0 vg c7 c8 c9 c10 c13 c14 g' og' cl' v0l vgl v0c vgc _ _ _ inv' hc' => ?_) (fun bst v0 vg c7 c8 c9 c10 c13 c14 v0l vgl v0c vgc hno => ?_)
            · dsimp only
              obtain ⟨x1, ⟨N', P', P0', Pn', _, _, _, _, Ps'⟩, x3, x4⟩ := ag_solved hT (by rw [w71]; omega) (by rw [w71]; omega) inv' (ag_bd_lt v0l) (ag_bd_lt vgl) vgc hc'
              rw [w71] at v0l vgl v0c vgc
              have e0 : v0 = s0 := ag_ce_ext (k := 3) (by omega) v0l s0l (fun a ha => by rw [v0c a ha, s0c a ha])
              have e1 : vg = go := ag_ce_ext (k := 3) (by omega) vgl gol (fun a ha => by rw [vgc a ha, goc a ha])
              subst e0
              subst e1
              refine H _ _ _ _ _ _ _ _ _ _ _ _ _ _ _ _ _ _ _ _ _ _ _ _ h4 (Or.inr ⟨g' vg, rfl, by omega, ⟨N', ?_⟩, x3, x4⟩)
              have := ag_chain (R := ag_JJ (ag_tab wl a1) (ag_kc 7 3)) (N := 0) (fun j hj => (Ps' j hj).1)
              rw [P0', Pn'] at this
              exact this
            · dsimp only
              rw [w71] at v0l vgl v0c vgc
              have e0 : v0 = s0 := ag_ce_ext (k := 3) (by omega) v0l s0l (fun a ha => by rw [v0c a ha, s0c a ha])
              have e1 : vg = go := ag_ce_ext (k := 3) (by omega) vgl gol (fun a ha => by rw [vgc a ha, goc a ha])
              subst e0
              subst e1
              exact H _ _ _ _ _ _ _ _ _ _ _ _ _ _ _ _ _ _ _ _ _ _ _ _ h4 (Or.inl ⟨rfl, hno⟩)
          · refine br_t rfl ?_
            have low7 := fun m hm => (low m hm (3 - i - j) hl bl).1
            refine ag_lengthAlone hl (hp _ hl).2 (hp _ hl).1 (h5 _ hl bl _ (hp _ hl).2) ?_
            have PJ : ∀ m, m < N → ag_JC (ag_tab wl a1) 2 (P m) (P (m + 1)) := fun m hm => ag_JJ_C (Ps m hm).1
            have hdq : ag_ce (P N) 0 ≠ ag_ce (P N) 1 := by
              rw [Pn, ugc0, ugc1]
              exact (hd i j hij hj bi bj).2
            have joint : ∀ n, n ≤ M → N ≤ n → ag_dd (ag_tab wl a1) (q (3 - i - j)) (p (3 - i - j)) ≤ n → gq_wk (ag_JC (ag_tab wl a1) 3) n s0 go := fun n n1 n2 n3 =>
              ag_third hij hj hl (by omega) (by omega) (fun w hw => (hp w hw).2) s0l gol s0c' goc' PJ (by rw [P0]; exact ⟨u0c0, u0c1⟩) (by rw [Pn]; exact ⟨ugc0, ugc1⟩) x0 hA hm (by omega) hdq n1 n2 n3
            have ex : ∃ m, gq_wk (ag_JJ (ag_tab wl a1) 3) m s0 go := by
              obtain ⟨m, _, hm⟩ := ag_JC_wk (by omega) s0l (joint M (Nat.le_refl _) hM1 hM2)
              exact ⟨m, hm⟩
            rw [← w71] at ex
            refine br_c (fun e => ?_) (fun e => ?_)
            · have NG := Ne e
              have both : ∀ m, gq_wk (ag_JJ (ag_tab wl a1) (ag_kc 7 3)) m s0 go → g ug ≤ m ∧ ag_dd (ag_tab wl a1) (q (3 - i - j)) (p (3 - i - j)) ≤ m := by
                intro m hm
                obtain ⟨m', m1, m2⟩ := sub hm
                have := (s3 e).2 m' m2
                exact ⟨by omega, low7 m hm⟩
              have ok : ∀ n, n = g ug ∨ n = ag_dd (ag_tab wl a1) (q (3 - i - j)) (p (3 - i - j)) → g ug ≤ n → ag_dd (ag_tab wl a1) (q (3 - i - j)) (p (3 - i - j)) ≤ n → ag_PS (ag_tab wl a1) (ag_kc 7 3) ef s0 go (nI n) := by
                intro n hn n1 n2
                have lb : ∀ m, gq_wk (ag_JJ (ag_tab wl a1) (ag_kc 7 3)) m s0 go → n ≤ m := by
                  intro m hm
                  have := both m hm
                  omega
                have wkn : gq_wk (ag_JJ (ag_tab wl a1) (ag_kc 7 3)) n s0 go := by
                  have j1 := joint n (by omega) (by omega) n2
                  rw [w71] at lb ⊢
                  exact ag_exact (by omega) s0l j1 lb
                exact Or.inr ⟨n, rfl, by omega, ex, fun _ => ⟨wkn, lb⟩, fun ne => absurd e ne⟩
              exact pk_le (g ug) (ag_dd (ag_tab wl a1) (q (3 - i - j)) (p (3 - i - j))) (fun y => H _ _ _ _ _ _ _ _ _ _ _ _ _ _ _ _ _ _ _ _ _ _ _ _ h4 (ok _ (Or.inr rfl) y (Nat.le_refl _))) (fun y => H _ _ _ _ _ _ _ _ _ _ _ _ _ _ _ _ _ _ _ _ _ _ _ _ h4 (ok _ (Or.inl rfl) (Nat.le_refl _) (by omega))) rfl rfl (by omega) (by omega)
            · refine H _ _ _ _ _ _ _ _ _ _ _ _ _ _ _ _ _ _ _ _ _ _ _ _ h4 (Or.inr ⟨g ug + ag_dd (ag_tab wl a1) (q (3 - i - j)) (p (3 - i - j)), nI_add _ _, by omega, ex, fun y => absurd y e, fun _ m hm => ?_⟩)
              obtain ⟨m', m1, m2⟩ := sub hm
              have y1 := s4 e m' m2
              have y2 := low7 m hm
              rw [w71]
              omega
      · dsimp only
        rw [g3] at u0l ugl hno
        have u0c0 := u0c 0 (by omega)
        have u0c1 := u0c 1 (by omega)
        have ugc0 := ugc 0 (by omega)
        have ugc1 := ugc 1 (by omega)
        rw [g4] at u0c0 ugc0
        rw [g5] at u0c1 ugc1
        refine br_t (by decide) (H _ _ _ _ _ _ _ _ _ _ _ _ _ _ _ _ _ _ _ _ _ _ _ _ h4 (Or.inl ⟨rfl, fun n hn => ?_⟩))
        obtain ⟨m, _, hm⟩ := ag_sub hij hj tor s0l gol s0c goc u0l ugl ⟨u0c0, u0c1⟩ ⟨ugc0, ugc1⟩ hn
        exact hno m hm
    · dsimp only
      have lb : ∀ m, gq_wk (ag_JJ (ag_tab wl a1) (ag_kc t 3)) m s0 go → ag_mx f 3 ≤ m := by
        intro m hm
        refine ag_mx_le 3 (fun w hw => ?_)
        by_cases hb : ag_bt t w
        · rw [fw w hw hb]; exact (low m hm w hw hb).1
        · rw [fn w hw hb]; omega
      have jc := ag_apart ht (fun w hw => (hp w hw).2) hA s0l gol s0c goc (n := ag_mx f 3) (by omega) (fun w hw hb => by rw [← fw w hw hb]; exact ag_mx_ge 3 w hw)
      have wkn := ag_exact hk s0l jc lb
      refine br_t rfl (H _ _ _ _ _ _ _ _ _ _ _ _ _ _ _ _ _ _ _ _ _ _ _ _ h4 (Or.inr ⟨_, rfl, by omega, ⟨_, wkn⟩, fun e => ?_, fun e m hm => ?_⟩))
      · rw [if_pos e]
        exact ⟨wkn, lb⟩
      · rw [if_neg e]
        have key : ∀ n, n ≤ 3 → ag_sm f n ≤ ag_kc t n * m := by
          intro n
          induction n with
          | zero => intro _; exact Nat.zero_le _
          | succ n ih =>
            intro hn
            have h1 := ih (by omega)
            show ag_sm f n + f n ≤ (if ag_bt t n then ag_kc t n + 1 else ag_kc t n) * m
            by_cases hb : ag_bt t n
            · rw [if_pos hb, fw n (by omega) hb, Nat.succ_mul]
              have := (low m hm n (by omega) hb).1
              omega
            · rw [if_neg hb, fn n (by omega) hb]
              exact h1
        exact key 3 (by omega)
end
end
section
section
variable {wl pd ct ef be pf ps tn : Int32} {a1 a2 a3 a4 a5 a6 a7 a8 a9 a10 a11 a12 a13 a14 a15 a16 a17 a18 a19 a20 a21 : Nat → Int32}
theorem ag_bound {post : Int32 → Prop} {k : Nat} (h1 : 1 ≤ k) (hk : k ≤ 3) (H : post (nI (ag_bd k))) : wpX_bound post (wl, pd, nI k, ef, be, pf, ps, tn, a1, a2, a3, a4, a5, a6, a7, a8, a9, a10, a11, a12, a13, a14, a15, a16, a17, a18, a19, a20, a21) := by
  have : k = 1 ∨ k = 2 ∨ k = 3 := by omega
  rcases this with z | z | z <;> subst z
  · exact br_t rfl H
  · exact br_f (by decide) (br_t rfl H)
  · exact br_f (by decide) (br_f (by decide) H)
theorem ag_ms30 {post : Int32 → St1 → Prop} {J : Int32 → Int32 → Prop} {k : Nat} (hk : k ≤ 3) {s i : Nat} (hi : i < k) (h13 : ∀ i, i < k → a13 i = nI (ag_ce s i)) {fl : Nat} {D : Prop} (hfl : (fl = 1 ∧ D) ∨ (fl = 0 ∧ ¬ D))
    (H : ∀ fl, (fl = 1 ∧ (D ∧ ∀ a, a < i → ag_ce s a ≠ ag_ce s i)) ∨ (fl = 0 ∧ ¬ (D ∧ ∀ a, a < i → ag_ce s a ≠ ag_ce s i)) → J (nI fl) (nI (i + 1))) : ∃ n, wX_mayStand_30 post J (nI i) wl pd (nI k) ef be pf ps tn a1 a2 a3 a4 a5 a6 a7 a8 a9 a10 a11 a12 a13 a14 a15 a16 a17 a18 a19 a20 a21 n (nI fl) 0 := by
  refine pk_loop (fun n j fl => wX_mayStand_30 post J (nI i) wl pd (nI k) ef be pf ps tn a1 a2 a3 a4 a5 a6 a7 a8 a9 a10 a11 a12 a13 a14 a15 a16 a17 a18 a19 a20 a21 n (nI fl) (nI j)) (fun j fl => (fl = 1 ∧ (D ∧ ∀ a, a < j → ag_ce s a ≠ ag_ce s i)) ∨ (fl = 0 ∧ ¬ (D ∧ ∀ a, a < j → ag_ce s a ≠ ag_ce s i))) i 0 fl (by omega) ?_ ?_ ?_
  · rcases hfl with z | z
    · exact Or.inl ⟨z.1, z.2, fun a ha => absurd ha (by omega)⟩
    · exact Or.inr ⟨z.1, fun y => z.2 y.1⟩
  · intro n fl h
    exact pk_le i i (fun _ => nm_r (nI_1 i) (H fl h)) (fun z => absurd z (by omega))
  · intro n j fl hj h hw
    have l1 := ag_ce_lt s i
    have l2 := ag_ce_lt s j
    refine pk_le i j (fun z => absurd z (by omega)) (fun _ => ?_)
    rcases h with ⟨e, g1, g2⟩ | ⟨e, g⟩
    · subst e
      refine br_f (by decide) ⟨pk_in i 3 (by omega), pk_in j 3 (by omega), ?_⟩
      refine pk_eq (ag_ce s i) (ag_ce s j) (fun z => nm_r (nI_1 j) (hw 0 (Or.inr ⟨rfl, fun y => y.2 j (by omega) z.symm⟩))) (fun z => nm_r (nI_1 j) (hw 1 (Or.inl ⟨rfl, g1, fun a ha => ?_⟩))) (by rw [nI_clamp (by omega)]; exact h13 i hi) (by rw [nI_clamp (by omega)]; exact h13 j (by omega)) (by omega) (by omega)
      by_cases y : a = j
      · rw [y]; exact fun v => z v.symm
      · exact g2 a (by omega)
    · subst e
      exact br_t rfl (nm_r (nI_1 j) (hw 0 (Or.inr ⟨rfl, fun y => g ⟨y.1, fun a ha => y.2 a (by omega)⟩⟩)))
theorem ag_mayStand {post : Int32 → St1 → Prop} {k : Nat} (hk1 : 1 ≤ k) (hk : k ≤ 3) {s : Nat} (hs : s < 1728) (H1 : ∀ b, ag_dif k s → post 1 (wl, pd, nI k, ef, be, pf, ps, tn, a1, a2, a3, a4, a5, a6, a7, a8, a9, a10, a11, a12, b, a14, a15, a16, a17, a18, a19, a20, a21)) (H0 : ∀ b, ¬ ag_dif k s → post 0 (wl, pd, nI k, ef, be, pf, ps, tn, a1, a2, a3, a4, a5, a6, a7, a8, a9, a10, a11, a12, b, a14, a15, a16, a17, a18, a19, a20, a21)) : wpX_mayStand post (wl, pd, nI k, ef, be, pf, ps, tn, a1, a2, a3, a4, a5, a6, a7, a8, a9, a10, a11, a12, a13, a14, a15, a16, a17, a18, a19, a20, a21) (nI s) := by
  unfold wpX_mayStand
  dsimp only
  refine ag_bound hk1 hk ?_
  have hb := ag_bd_le (k := k)
  refine pk_lt s (ag_bd k) (fun z => ?_) (fun z => H0 a13 (fun y => absurd y.1 (by omega))) rfl rfl (by omega) (by omega)
  refine ag_layCells hk hs (fun b h13 => ?_)
  refine pk_loop (fun n i fl => wX_mayStand_19 post wl pd (nI k) ef be pf ps tn a1 a2 a3 a4 a5 a6 a7 a8 a9 a10 a11 a12 b a14 a15 a16 a17 a18 a19 a20 a21 n (nI fl) (nI i)) (fun i fl => (fl = 1 ∧ ∀ a c, a < c → c < i → ag_ce s a ≠ ag_ce s c) ∨ (fl = 0 ∧ ¬ ∀ a c, a < c → c < i → ag_ce s a ≠ ag_ce s c)) k 0 1 (by omega) (Or.inl ⟨rfl, fun a c h1 h2 => absurd h2 (by omega)⟩) ?_ ?_
  · intro n fl h
    refine pk_le k k (fun _ => ?_) (fun z => absurd z (by omega))
    rcases h with ⟨e, g⟩ | ⟨e, g⟩
    · subst e
      exact ⟨rfl, H1 b ⟨z, g⟩⟩
    · subst e
      exact ⟨rfl, H0 b (fun y => g y.2)⟩
  · intro n i fl hi h hw
    refine pk_le k i (fun z => absurd z (by omega)) (fun _ => ?_)
    refine ag_ms30 hk hi h13 h (fun fl' hf => hw fl' ?_)
    have e : (∀ a c, a < c → c < i + 1 → ag_ce s a ≠ ag_ce s c) ↔ ((∀ a c, a < c → c < i → ag_ce s a ≠ ag_ce s c) ∧ ∀ a, a < i → ag_ce s a ≠ ag_ce s i) := by
      constructor
      · intro g
        exact ⟨fun a c h1 h2 => g a c h1 (by omega), fun a ha => g a i ha (by omega)⟩
      · rintro ⟨g1, g2⟩ a c h1 h2
        by_cases y : c = i
        · rw [y]; exact g2 a (by omega)
        · exact g1 a c h1 (by omega)
    rw [e]
    exact hf
theorem ag_reachesIn {post : Int32 → St1 → Prop} {k : Nat} (hk1 : 1 ≤ k) (hk : k ≤ 3) {T : Nat → Int32} (hT : ag_TOK T) (h4 : ∀ j, j < 48 → a4 j = T j) {s v : Nat} (hs : s < 1728) (hv : v < 2000) {g : Nat → Nat} (r8 : ag_r8 a8 g) (hg : ∀ s, s < 1728 → g s ≤ 1000000)
    (H1 : ∀ b13 b14 s', ag_JJ T k s s' → g s' = v → post 1 (wl, pd, nI k, ef, be, pf, ps, tn, a1, a2, a3, a4, a5, a6, a7, a8, a9, a10, a11, a12, b13, b14, a15, a16, a17, a18, a19, a20, a21)) (H0 : ∀ b13 b14, (∀ s', ag_JJ T k s s' → g s' ≠ v) → post 0 (wl, pd, nI k, ef, be, pf, ps, tn, a1, a2, a3, a4, a5, a6, a7, a8, a9, a10, a11, a12, b13, b14, a15, a16, a17, a18, a19, a20, a21)) : wpX_reachesIn post (wl, pd, nI k, ef, be, pf, ps, tn, a1, a2, a3, a4, a5, a6, a7, a8, a9, a10, a11, a12, a13, a14, a15, a16, a17, a18, a19, a20, a21) (nI s) (nI v) := by
  refine ag_layCells hk hs (fun b13 h13 => ?_)
  refine ag_choices hk1 hk ?_
  have hcs := ag_cs_le (k := k)
  refine pk_loop (fun n i b14 => wX_reachesIn_13 post (nI v) (nI (ag_cs k)) n (nI i) wl pd (nI k) ef be pf ps tn a1 a2 a3 a4 a5 a6 a7 a8 a9 a10 a11 a12 b13 b14 a15 a16 a17 a18 a19 a20 a21) (fun i _ => 1 ≤ i ∧ ∀ c, 1 ≤ c → c < i → ∀ s', ag_J1 T k s c s' → g s' ≠ v) (ag_cs k) 1 a14 ?_ ⟨by omega, fun c h1 h2 => absurd h2 (by omega)⟩ ?_ ?_
  · rcases ag_k3 hk with z | z | z | z <;> subst z <;> decide
  · intro n b14 h
    refine pk_le (ag_cs k) (ag_cs k) (fun _ => H0 b13 b14 (fun s' hJ => ?_)) (fun z => absurd z (by omega))
    obtain ⟨c, c1, c2, c3⟩ := hJ
    exact h.2 c c1 c2 s' c3
  · intro n i b14 hi h hw
    refine pk_le (ag_cs k) i (fun z => absurd z (by omega)) (fun _ => ?_)
    refine ag_chosen hk1 hk hT h4 hi h13 (fun c14 s' hJ h14 => ?_) (fun c14 hJ => ?_)
    · have l := ag_bd_lt hJ.1
      have gl := hg s' l
      refine br_f (nI_pos (by omega)) ⟨pk_in s' 1728 l, ?_⟩
      refine pk_eq (g s') v (fun z => H1 b13 c14 s' ⟨i, h.1, hi, hJ⟩ z) (fun z => nm_r (nI_1 i) (hw c14 ⟨by omega, fun c c1 c2 s'' hJ' => ?_⟩)) (by rw [nI_clamp (by omega)]; exact r8 s' l) rfl (by omega) (by omega)
      by_cases e : c = i
      · rw [e] at hJ'
        rw [ag_J1_det hk hJ' hJ]
        exact z
      · exact h.2 c c1 (by omega) s'' hJ'
    · refine br_t (by decide) (nm_r (nI_1 i) (hw c14 ⟨by omega, fun c c1 c2 s'' hJ' => ?_⟩))
      by_cases e : c = i
      · rw [e] at hJ'
        exact absurd hJ' (hJ s'')
      · exact h.2 c c1 (by omega) s'' hJ'
/-- what is known of the turns left after the rounds below m -/
def ag_TL (T : Nat → Int32) (k go m : Nat) (g : Nat → Nat) : Prop :=
  (∀ s, s < 1728 → g s ≤ 1000000) ∧ g go = 0 ∧ (∀ s, s < 1728 → g s < 1000000 → g s ≤ m ∧ (g s = 0 → s = go) ∧ ∀ n, g s = n + 1 → ∃ s', ag_JJ T k s s' ∧ g s' = n) ∧
  (∀ s s', ag_dif k s → ag_JJ T k s s' → g s' < m → g s ≤ g s' + 1)
theorem ag_ftl53 {post : St1 → Prop} {J : Int32 → Int32 → Int32 → Int32 → Int32 → Int32 → Int32 → Int32 → Int32 → Int32 → (Nat → Int32) → (Nat → Int32) → (Nat → Int32) → (Nat → Int32) → (Nat → Int32) → (Nat → Int32) → (Nat → Int32) → (Nat → Int32) → (Nat → Int32) → (Nat → Int32) → (Nat → Int32) → (Nat → Int32) → (Nat → Int32) → (Nat → Int32) → (Nat → Int32) → (Nat → Int32) → (Nat → Int32) → (Nat → Int32) → (Nat → Int32) → (Nat → Int32) → (Nat → Int32) → Prop}
    {k : Nat} (hk1 : 1 ≤ k) (hk : k ≤ 3) {T : Nat → Int32} (hT : ag_TOK T) (h4 : ∀ j, j < 48 → a4 j = T j) {go m : Nat} (hgo : go < 1728) (hm : m < 1727) {g : Nat → Nat} (r8 : ag_r8 a8 g) (tl : ag_TL T k go m g)
    (H : ∀ fl b8 b13 b14 g', ag_r8 b8 g' → ag_TL T k go (m + 1) g' → (fl = 1 ∨ (fl = 0 ∧ ∀ s, s < 1728 → g' s < 1000000 → g' s < m + 1)) → J (nI fl) (nI (m + 1 + 1)) wl pd (nI k) ef be pf ps tn a1 a2 a3 a4 a5 a6 a7 b8 a9 a10 a11 a12 b13 b14 a15 a16 a17 a18 a19 a20 a21) : ∃ n, wX_findTurnsLeft_53 post J (nI (m + 1)) n 0 0 wl pd (nI k) ef be pf ps tn a1 a2 a3 a4 a5 a6 a7 a8 a9 a10 a11 a12 a13 a14 a15 a16 a17 a18 a19 a20 a21 := by
  have key : ∃ n, (fun (n i : Nat) (u : Nat × (Nat → Int32) × (Nat → Int32) × (Nat → Int32)) => wX_findTurnsLeft_53 post J (nI (m + 1)) n (nI u.1) (nI i) wl pd (nI k) ef be pf ps tn a1 a2 a3 a4 a5 a6 a7 u.2.1 a9 a10 a11 a12 u.2.2.1 u.2.2.2 a15 a16 a17 a18 a19 a20 a21) n 0 (0, a8, a13, a14) := by
    refine pk_loop (fun (n i : Nat) (u : Nat × (Nat → Int32) × (Nat → Int32) × (Nat → Int32)) => wX_findTurnsLeft_53 post J (nI (m + 1)) n (nI u.1) (nI i) wl pd (nI k) ef be pf ps tn a1 a2 a3 a4 a5 a6 a7 u.2.1 a9 a10 a11 a12 u.2.2.1 u.2.2.2 a15 a16 a17 a18 a19 a20 a21)
      (fun i u => ∃ g', ag_r8 u.2.1 g' ∧ (∀ s, s < 1728 → g' s ≤ 1000000) ∧ g' go = 0 ∧ (∀ s, s < 1728 → g' s < 1000000 → g' s ≤ m + 1 ∧ (g' s = 0 → s = go) ∧ ∀ n, g' s = n + 1 → ∃ s', ag_JJ T k s s' ∧ g' s' = n) ∧ (∀ s s', ag_dif k s → ag_JJ T k s s' → g' s' < m → g' s ≤ g' s' + 1) ∧ (∀ s s', s < i → ag_dif k s → ag_JJ T k s s' → g' s' = m → g' s ≤ m + 1) ∧ (u.1 = 1 ∨ (u.1 = 0 ∧ ∀ s, s < 1728 → g' s < 1000000 → g' s < m + 1))) 1728 0 (0, a8, a13, a14) (by omega) ?_ ?_ ?_
    · obtain ⟨t1, t2, t3, t4⟩ := tl
      refine ⟨g, r8, t1, t2, fun s hs hg => ⟨by have := (t3 s hs hg).1; omega, (t3 s hs hg).2⟩, t4, fun s s' h => absurd h (by omega), Or.inr ⟨rfl, fun s hs hg => by have := (t3 s hs hg).1; omega⟩⟩
    · rintro n ⟨fl, b8, b13, b14⟩ ⟨g', f1, f2, f3, f4, f5, f6, f7⟩
      dsimp only at f1 f7 ⊢
      refine pk_le 1728 1728 (fun _ => nm_r (nI_1 (m + 1)) (H fl b8 b13 b14 g' f1 ⟨f2, f3, f4, fun s s' hd hJ hg => ?_⟩ f7)) (fun z => absurd z (by omega))
      rcases Nat.lt_or_ge (g' s') m with z | z
      · exact f5 s s' hd hJ z
      · have e : g' s' = m := by omega
        rw [e]
        exact f6 s s' (ag_bd_lt hd.1) hd hJ e
    · rintro n i ⟨fl, b8, b13, b14⟩ hi ⟨g', f1, f2, f3, f4, f5, f6, f7⟩ hw
      dsimp only at f1 f7 hw ⊢
      have skip : ∀ c13 c14, (ag_dif k i → ∀ s', ag_JJ T k i s' → g' s' = m → g' i ≤ m + 1) → wX_findTurnsLeft_53 post J (nI (m + 1)) n (nI fl) (nI (i + 1)) wl pd (nI k) ef be pf ps tn a1 a2 a3 a4 a5 a6 a7 b8 a9 a10 a11 a12 c13 c14 a15 a16 a17 a18 a19 a20 a21 := by
        intro c13 c14 hn
        refine hw (fl, b8, c13, c14) ⟨g', f1, f2, f3, f4, f5, fun s s' hs hd hJ e => ?_, f7⟩
        by_cases y : s = i
        · rw [y] at hd hJ ⊢
          exact hn hd s' hJ e
        · exact f6 s s' (by omega) hd hJ e
      have gl := f2 i hi
      refine pk_le 1728 i (fun z => absurd z (by omega)) (fun _ => ⟨pk_in i 1728 hi, ?_⟩)
      refine pk_eq (g' i) 1000000 (fun z => ?_) (fun z => nm_r (nI_1 i) (skip b13 b14 (fun _ s' _ _ => (f4 i hi (by omega)).1))) (by rw [nI_clamp (by omega)]; exact f1 i hi) rfl (by omega) (by omega)
      refine ag_mayStand hk1 hk hi (fun c13 hd => br_f (by decide) ?_) (fun c13 hd => br_t rfl (nm_r (nI_1 i) (skip c13 b14 (fun y => absurd y hd))))
      rw [nI_pred]
      refine ag_reachesIn hk1 hk hT h4 hi (by omega) f1 f2 (fun d13 d14 s' hJ e => br_f (by decide) ⟨pk_in i 1728 hi, ?_⟩) (fun d13 d14 hno => br_t rfl (nm_r (nI_1 i) (skip d13 d14 (fun _ s' hJ e => absurd e (hno s' hJ)))))
      refine nm_r (e' := upd b8 i (nI (m + 1))) (by rw [nI_clamp (by omega)]) (nm_r (nI_1 i) (hw (1, upd b8 i (nI (m + 1)), d13, d14) ⟨fun s => if s = i then m + 1 else g' s, ag_r8_u f1 i (m + 1), ?_⟩))
      have ne : ∀ s, g' s < 1000000 → s ≠ i := fun s h y => by rw [y] at h; omega
      have new : ∀ s, g' s < 1000000 → (if s = i then m + 1 else g' s) = g' s := fun s h => if_neg (ne s h)
      refine ⟨fun s hs => ?_, ?_, fun s hs hg => ?_, fun s s'' hd' hJ' hg => ?_, fun s s'' hs' hd' hJ' hg => ?_, Or.inl rfl⟩
      · dsimp only
        by_cases y : s = i
        · rw [if_pos y]; omega
        · rw [if_neg y]; exact f2 s hs
      · dsimp only
        rw [new go (by omega)]
        exact f3
      · dsimp only at hg ⊢
        by_cases y : s = i
        · rw [if_pos y]
          refine ⟨by omega, fun h => absurd h (by omega), fun n' hn => ⟨s', by rw [y]; exact hJ, ?_⟩⟩
          rw [new s' (by omega)]
          omega
        · rw [if_neg y] at hg ⊢
          obtain ⟨x1, x2, x3⟩ := f4 s hs hg
          refine ⟨x1, x2, fun n' hn => ?_⟩
          obtain ⟨s'', y1, y2⟩ := x3 n' hn
          exact ⟨s'', y1, by rw [new s'' (by omega)]; exact y2⟩
      · dsimp only at hg ⊢
        have y : s'' ≠ i := fun y => by rw [if_pos y] at hg; omega
        rw [if_neg y] at hg ⊢
        have := f5 s s'' hd' hJ' hg
        rw [new s (by omega)]
        exact this
      · dsimp only at hg ⊢
        have y : s'' ≠ i := fun y => by rw [if_pos y] at hg; omega
        rw [if_neg y] at hg
        by_cases v : s = i
        · rw [if_pos v]; omega
        · rw [if_neg v]
          exact f6 s s'' (by omega) hd' hJ' hg
  exact key
theorem ag_findTurnsLeft {post : St1 → Prop} {k : Nat} (hk1 : 1 ≤ k) (hk : k ≤ 3) {T : Nat → Int32} (hT : ag_TOK T) (h4 : ∀ j, j < 48 → a4 j = T j) {wh v : Nat → Nat} (h7 : ∀ i, i < k → a7 i = nI (wh i) ∧ wh i < 3) (hv : ∀ i, i < k → a3 (wh i) = nI (v i) ∧ v i < 12) {go : Nat} (gol : go < ag_bd k) (goc : ∀ i, i < k → ag_ce go i = v i)
    (H : ∀ b8 b13 b14 g, ag_r8 b8 g → ag_TL T k go 1727 g → post (wl, pd, nI k, ef, be, pf, ps, tn, a1, a2, a3, a4, a5, a6, a7, b8, a9, a10, a11, a12, b13, b14, a15, a16, a17, a18, a19, a20, a21)) : wpX_findTurnsLeft post (wl, pd, nI k, ef, be, pf, ps, tn, a1, a2, a3, a4, a5, a6, a7, a8, a9, a10, a11, a12, a13, a14, a15, a16, a17, a18, a19, a20, a21) := by
  refine pk_loop (fun n i s => wX_findTurnsLeft_2 post wl pd (nI k) ef be pf ps tn n (nI i) a1 a2 a3 a4 a5 a6 a7 s a9 a10 a11 a12 a13 a14 a15 a16 a17 a18 a19 a20 a21) (fun i s => ∀ j, j < i → s j = nI 1000000) 1728 0 a8 (by omega) (fun j hj => absurd hj (by omega)) ?_ ?_
  · intro n b8 h
    refine pk_le 1728 1728 (fun _ => ?_) (fun z => absurd z (by omega))
    refine ag_stateOf hk h7 (fun i hi => ⟨fun z => absurd z (by decide), fun _ => (hv i hi).1, (hv i hi).2⟩) (fun go' gol' goc' => ?_)
    have e : go' = go := ag_ce_ext hk gol' gol (fun i hi => by rw [goc' i hi, goc i hi])
    subst e
    have gl := ag_bd_lt gol
    refine ⟨pk_in go' 1728 gl, nm_r (e' := upd b8 go' (nI 0)) (by rw [nI_clamp (by omega)]; rfl) ?_⟩
    have r8 : ag_r8 (upd b8 go' (nI 0)) (fun s => if s = go' then 0 else 1000000) := ag_r8_u (g := fun _ => 1000000) h go' 0
    have tl : ag_TL T k go' 0 (fun s => if s = go' then 0 else 1000000) := by
      refine ⟨fun s hs => ?_, if_pos rfl, fun s hs hg => ?_, fun s s' _ _ hg => absurd hg (by omega)⟩
      · dsimp only
        by_cases y : s = go'
        · rw [if_pos y]; omega
        · rw [if_neg y]; omega
      · dsimp only at hg ⊢
        by_cases y : s = go'
        · rw [if_pos y]
          exact ⟨by omega, fun _ => y, fun n hn => absurd hn (by omega)⟩
        · rw [if_neg y] at hg
          omega
    have key : ∃ n, (fun (n i : Nat) (u : Nat × (Nat → Int32) × (Nat → Int32) × (Nat → Int32)) => wX_findTurnsLeft_38 post n (nI u.1) (nI i) wl pd (nI k) ef be pf ps tn a1 a2 a3 a4 a5 a6 a7 u.2.1 a9 a10 a11 a12 u.2.2.1 u.2.2.2 a15 a16 a17 a18 a19 a20 a21) n 1 (1, upd b8 go' (nI 0), a13, a14) := by
      refine pk_loop (fun (n i : Nat) (u : Nat × (Nat → Int32) × (Nat → Int32) × (Nat → Int32)) => wX_findTurnsLeft_38 post n (nI u.1) (nI i) wl pd (nI k) ef be pf ps tn a1 a2 a3 a4 a5 a6 a7 u.2.1 a9 a10 a11 a12 u.2.2.1 u.2.2.2 a15 a16 a17 a18 a19 a20 a21) (fun i u => 1 ≤ i ∧ ∃ g, ag_r8 u.2.1 g ∧ ag_TL T k go' (i - 1) g ∧ (u.1 = 1 ∨ (u.1 = 0 ∧ ∀ s, s < 1728 → g s < 1000000 → g s < i - 1))) 1728 1 (1, upd b8 go' (nI 0), a13, a14) (by omega) ⟨by omega, _, r8, tl, Or.inl rfl⟩ ?_ ?_
      · rintro n ⟨fl, c8, c13, c14⟩ ⟨_, g, f1, f2, f3⟩
        exact pk_le 1728 1728 (fun _ => H c8 c13 c14 g f1 f2) (fun z => absurd z (by omega))
      · rintro n i ⟨fl, c8, c13, c14⟩ hi ⟨i1, g, f1, f2, f3⟩ hw
        dsimp only at f1 f3 hw ⊢
        refine pk_le 1728 i (fun z => absurd z (by omega)) (fun _ => ?_)
        rcases f3 with z | ⟨z, z2⟩
        · subst z
          refine br_f (by decide) ?_
          obtain ⟨m, rfl⟩ : ∃ m, i = m + 1 := ⟨i - 1, by omega⟩
          refine ag_ftl53 hk1 hk hT h4 gl (by omega) f1 f2 (fun fl b8 b13 b14 g' x1 x2 x3 => hw (fl, b8, b13, b14) ⟨by omega, g', x1, x2, x3⟩)
        · subst z
          refine br_t rfl (H c8 c13 c14 g f1 ⟨f2.1, f2.2.1, fun s hs hg => ⟨by have := z2 s hs hg; omega, (f2.2.2.1 s hs hg).2⟩, fun s s' hd hJ hg => ?_⟩)
          exact f2.2.2.2 s s' hd hJ (z2 s' (ag_bd_lt (ag_JJ_lt hJ)) (by omega))
    exact key
  · intro n i s hi h hw
    refine pk_le 1728 i (fun z => absurd z (by omega)) (fun _ => ⟨pk_in i 1728 hi, nm_e (nm_r (nI_1 i) (hw _ ?_))⟩)
    exact ag_fill (f := fun _ => nI 1000000) (nI_clamp (by omega)) h rfl
theorem ag_keyOf {post : Int32 → Prop} {k : Nat} (hk : k ≤ 3) {s : Nat} (hs : s < 1728) (H : ∀ κ, κ < 1728 → post (nI κ)) : wpX_keyOf post (wl, pd, nI k, ef, be, pf, ps, tn, a1, a2, a3, a4, a5, a6, a7, a8, a9, a10, a11, a12, a13, a14, a15, a16, a17, a18, a19, a20, a21) (nI s) := by
  have e0 : s / ag_bd 0 = s := Nat.div_one s
  have key : ∃ n, (fun (n i κ : Nat) => wX_keyOf_7 post wl pd (nI k) ef be pf ps tn a1 a2 a3 a4 a5 a6 a7 a8 a9 a10 a11 a12 a13 a14 a15 a16 a17 a18 a19 a20 a21 n (nI (s / ag_bd i)) (nI κ) (nI i)) n 0 0 := by
    refine pk_loop (fun (n i κ : Nat) => wX_keyOf_7 post wl pd (nI k) ef be pf ps tn a1 a2 a3 a4 a5 a6 a7 a8 a9 a10 a11 a12 a13 a14 a15 a16 a17 a18 a19 a20 a21 n (nI (s / ag_bd i)) (nI κ) (nI i)) (fun i κ => κ < ag_bd i) k 0 0 (by omega) (by decide) ?_ ?_
    · intro n κ h
      exact pk_le k k (fun _ => H κ (ag_bd_lt h)) (fun z => absurd z (by omega))
    · intro n i κ hi h hw
      have hsl := ag_dle s i
      have hc := ag_ce_lt s i
      refine pk_le k i (fun z => absurd z (by omega)) (fun _ => ⟨by decide, nm_r (e' := nI (12 * κ + ag_ce s i)) (by rw [ag_rem12 (by omega), ag_i12, ag_dig (by omega)]) ⟨by decide, nm_r (e' := nI (s / ag_bd (i + 1))) (by rw [ag_div12 (by omega), ag_dig2 (by omega)]) (nm_r (nI_1 i) (hw _ ?_))⟩⟩)
      have := ag_bd12 (i := i) (by omega)
      omega
  obtain ⟨n, hn⟩ := key
  try dsimp only at hn
  rw [e0] at hn
  exact ⟨n, hn⟩
theorem ag_firstNext {post : Int32 → St1 → Prop} {k : Nat} (hk1 : 1 ≤ k) (hk : k ≤ 3) {T : Nat → Int32} (hT : ag_TOK T) (h4 : ∀ j, j < 48 → a4 j = T j) {s v : Nat} (hs : s < 1728) {g : Nat → Nat} (r8 : ag_r8 a8 g) (hg : ∀ s, s < 1728 → g s ≤ 1000000) (gs : g s = v + 1) (hx : ∃ s', ag_JJ T k s s' ∧ g s' = v)
    (H : ∀ b13 b14 s', ag_JC T k s s' → g s' = v → post (nI s') (wl, pd, nI k, ef, be, pf, ps, tn, a1, a2, a3, a4, a5, a6, a7, a8, a9, a10, a11, a12, b13, b14, a15, a16, a17, a18, a19, a20, a21)) : wpX_firstNext post (wl, pd, nI k, ef, be, pf, ps, tn, a1, a2, a3, a4, a5, a6, a7, a8, a9, a10, a11, a12, a13, a14, a15, a16, a17, a18, a19, a20, a21) (nI s) := by
  refine ag_layCells hk hs (fun b13 h13 => ?_)
  have hv := hg s hs
  refine ⟨pk_in s 1728 hs, nm_r (e' := nI v) (by rw [nI_clamp (by omega), r8 s hs, gs, nI_pred]) ?_⟩
  refine ag_choices hk1 hk ?_
  have hcs := ag_cs_le (k := k)
  have key : ∃ n, (fun (n i : Nat) (u : Int32 × Int32 × (Nat → Int32)) => wX_firstNext_30 post (nI s) (nI v) (nI (ag_cs k)) n u.1 u.2.1 (nI i) wl pd (nI k) ef be pf ps tn a1 a2 a3 a4 a5 a6 a7 a8 a9 a10 a11 a12 b13 u.2.2 a15 a16 a17 a18 a19 a20 a21) n 0 (-1, nI 1728, a14) := by
    refine pk_loop (fun (n i : Nat) (u : Int32 × Int32 × (Nat → Int32)) => wX_firstNext_30 post (nI s) (nI v) (nI (ag_cs k)) n u.1 u.2.1 (nI i) wl pd (nI k) ef be pf ps tn a1 a2 a3 a4 a5 a6 a7 a8 a9 a10 a11 a12 b13 u.2.2 a15 a16 a17 a18 a19 a20 a21) (fun i u => (u.1 = -1 ∧ u.2.1 = nI 1728 ∧ ∀ c, c < i → ∀ s', ag_J1 T k s c s' → g s' ≠ v) ∨ (∃ s', u.1 = nI s' ∧ s' < 1728 ∧ ag_JC T k s s' ∧ g s' = v)) (ag_cs k) 0 (-1, nI 1728, a14) (by omega) (Or.inl ⟨rfl, rfl, fun c hc => absurd hc (by omega)⟩) ?_ ?_
    · rintro n ⟨x4, x5, b14⟩ h
      refine pk_le (ag_cs k) (ag_cs k) (fun _ => ?_) (fun z => absurd z (by omega))
      rcases h with ⟨_, _, h3⟩ | ⟨s', h1, h2, h3, h4⟩
      · obtain ⟨s', ⟨c, c1, c2, c3⟩, e⟩ := hx
        exact absurd e (h3 c c2 s' c3)
      · have h1' : x4 = nI s' := h1
        subst h1'
        exact br_t (nI_pos' (by omega)) (H b13 b14 s' h3 h4)
    · rintro n i ⟨x4, x5, b14⟩ hi h hw
      dsimp only at h hw ⊢
      refine pk_le (ag_cs k) i (fun z => absurd z (by omega)) (fun _ => ?_)
      have skip : ∀ c14, (∀ s', ag_J1 T k s i s' → g s' ≠ v) → wX_firstNext_30 post (nI s) (nI v) (nI (ag_cs k)) n x4 x5 (nI (i + 1)) wl pd (nI k) ef be pf ps tn a1 a2 a3 a4 a5 a6 a7 a8 a9 a10 a11 a12 b13 c14 a15 a16 a17 a18 a19 a20 a21 := by
        intro c14 hn
        refine hw (x4, x5, c14) ?_
        rcases h with ⟨h1, h2, h3⟩ | h
        · refine Or.inl ⟨h1, h2, fun c hc s' hJ => ?_⟩
          by_cases e : c = i
          · rw [e] at hJ; exact hn s' hJ
          · exact h3 c (by omega) s' hJ
        · exact Or.inr h
      refine ag_chosen hk1 hk hT h4 hi h13 (fun c14 s' hJ h14 => ?_) (fun c14 hJ => ?_)
      · have l := ag_bd_lt hJ.1
        have gl := hg s' l
        refine br_f (nI_pos (by omega)) ⟨pk_in s' 1728 l, ?_⟩
        refine pk_eq (g s') v (fun z => ?_) (fun z => nm_r (nI_1 i) (skip c14 (fun s'' hJ' => by rw [ag_J1_det hk hJ' hJ]; exact z))) (by rw [nI_clamp (by omega)]; exact r8 s' l) rfl (by omega) (by omega)
        refine ag_keyOf hk l (fun κ hκ => ?_)
        have take : wX_firstNext_30 post (nI s) (nI v) (nI (ag_cs k)) n (nI s') (nI κ) (nI (i + 1)) wl pd (nI k) ef be pf ps tn a1 a2 a3 a4 a5 a6 a7 a8 a9 a10 a11 a12 b13 c14 a15 a16 a17 a18 a19 a20 a21 := hw (nI s', nI κ, c14) (Or.inr ⟨s', rfl, l, ag_J1_C hJ, z⟩)
        rcases h with ⟨h1, h2, h3⟩ | h
        · exact pk_le 1728 κ (fun y => absurd y (by omega)) (fun _ => nm_r (nI_1 i) take) h2
        · exact br_c (fun _ => nm_r (nI_1 i) (hw (x4, x5, c14) (Or.inr h))) (fun _ => nm_r (nI_1 i) take)
      · exact br_t (by decide) (nm_r (nI_1 i) (skip c14 (fun s' hJ' => absurd hJ' (hJ s'))))
  exact key
end
end
section
theorem ag_TL_wk {T : Nat → Int32} {k go m : Nat} {g : Nat → Nat} (h : ag_TL T k go m g) : ∀ n s, s < 1728 → g s = n → n < 1000000 → gq_wk (ag_JJ T k) n s go := by
  intro n
  induction n with
  | zero =>
    intro s hs e _
    exact (h.2.2.1 s hs (by omega)).2.1 e
  | succ n ih =>
    intro s hs e hn
    obtain ⟨s', h1, h2⟩ := (h.2.2.1 s hs (by omega)).2.2 n e
    exact ⟨s', h1, ih s' (ag_bd_lt (ag_JJ_lt h1)) h2 (by omega)⟩
theorem ag_TL_f {T : Nat → Int32} {k go : Nat} {g : Nat → Nat} (h : ag_TL T k go 1727 g) {s0 f : Nat} (hd : ag_dif k s0) (hw : gq_wk (ag_JJ T k) f s0 go) (hm : ∀ m, gq_wk (ag_JJ T k) m s0 go → f ≤ m) : f < 1728 ∧ g s0 = f := by
  have s0l := ag_bd_lt hd.1
  have fl : f < 1728 := by
    obtain ⟨m, m1, m2, m3, _⟩ := gq_lt (N := 1728) s0l (fun a b _ hR => ag_bd_lt (ag_JJ_lt hR)) hw
    have := hm m m3
    omega
  obtain ⟨v, v0, vn, vs⟩ := gq_seq hw
  have vd : ∀ i, i ≤ f → ag_dif k (v i) := by
    intro i hi
    cases i with
    | zero => rw [v0]; exact hd
    | succ i => exact ag_JC_dif (ag_JJ_C (vs i (by omega)))
  have le : ∀ j, j ≤ f → g (v (f - j)) ≤ j := by
    intro j
    induction j with
    | zero =>
      intro _
      rw [Nat.sub_zero, vn, h.2.1]
      omega
    | succ j ih =>
      intro hj
      have h1 := ih (by omega)
      have h2 := vs (f - (j + 1)) (by omega)
      rw [show f - (j + 1) + 1 = f - j by omega] at h2
      have := h.2.2.2 _ _ (vd (f - (j + 1)) (by omega)) h2 (by omega)
      omega
  have l0 := le f (Nat.le_refl _)
  rw [Nat.sub_self, v0] at l0
  have w := ag_TL_wk h (g s0) s0 s0l rfl (by omega)
  have := hm _ w
  exact ⟨fl, by omega⟩
/-- what cellAt answers of a ready team -/
def ag_CS (T : Nat → Int32) (t : Nat) (p q : Nat → Nat) (s0 go : Nat) (y z r : Int32) : Prop :=
  (r = -2 ∧ ∀ n, ¬ gq_wk (ag_JJ T (ag_kc t 3)) n s0 go) ∨
  ∃ f, gq_wk (ag_JJ T (ag_kc t 3)) f s0 go ∧ (∀ m, gq_wk (ag_JJ T (ag_kc t 3)) m s0 go → f ≤ m) ∧
    ((r = -3 ∧ ¬ ∃ w, w < 3 ∧ y = nI w ∧ ag_bt t w) ∨ ∃ w, w < 3 ∧ y = nI w ∧ ag_bt t w ∧
      ((r = -4 ∧ ¬ ∃ m, m ≤ f ∧ z = nI m) ∨ ∃ m c, m ≤ f ∧ z = nI m ∧ c < 12 ∧ r = nI c ∧ gq_wk (fun a b => b = a ∨ ag_E T a b) m (p w) c ∧ gq_wk (fun a b => b = a ∨ ag_E T a b) (f - m) c (q w)))
section
variable {wl pd ct ef be pf ps tn : Int32} {a1 a2 a3 a4 a5 a6 a7 a8 a9 a10 a11 a12 a13 a14 a15 a16 a17 a18 a19 a20 a21 : Nat → Int32}
theorem ag_ca111 {post : Int32 → St1 → Prop} {t : Nat} (ht : t < 8) (h7 : ∀ i, i < ag_kc t 3 → a7 i = nI (ag_wh t i)) {w : Nat} (hw3 : w < 3) (hb : ag_bt t w) (H : post (a13 (ag_kc t w)) (wl, pd, nI (ag_kc t 3), ef, be, pf, ps, tn, a1, a2, a3, a4, a5, a6, a7, a8, a9, a10, a11, a12, a13, a14, a15, a16, a17, a18, a19, a20, a21)) : ∃ n, wX_cellAt_111 post (nI w) wl pd (nI (ag_kc t 3)) ef be pf ps tn a1 a2 a3 a4 a5 a6 a7 a8 a9 a10 a11 a12 a13 a14 a15 a16 a17 a18 a19 a20 a21 n 0 := by
  obtain ⟨hk, _⟩ := ag_kc_3 t ht
  obtain ⟨k1, k2⟩ := ag_wh_kc t ht w hw3 hb
  refine pk_loop (σ := Unit) (fun n i _ => wX_cellAt_111 post (nI w) wl pd (nI (ag_kc t 3)) ef be pf ps tn a1 a2 a3 a4 a5 a6 a7 a8 a9 a10 a11 a12 a13 a14 a15 a16 a17 a18 a19 a20 a21 n (nI i)) (fun i _ => ∀ j, j < i → ag_wh t j ≠ w) (ag_kc t 3) 0 () (by omega) (fun j hj => absurd hj (by omega)) ?_ ?_
  · intro n _ h
    exact absurd k1 (h _ k2)
  · intro n i _ hi h hw
    obtain ⟨w1, w2, w3⟩ := ag_wh_ok t ht i (by omega) hi
    refine pk_le (ag_kc t 3) i (fun z => absurd z (by omega)) (fun _ => ⟨pk_in i 3 (by omega), ?_⟩)
    refine pk_eq (ag_wh t i) w (fun z => ⟨pk_in i 3 (by omega), ?_⟩) (fun z => nm_r (nI_1 i) (hw () (fun j hj => ?_))) (by rw [nI_clamp (by omega)]; exact h7 i hi) rfl (by omega) (by omega)
    · rw [nI_clamp (by omega)]
      rw [z] at w3
      rw [← w3]
      exact H
    · by_cases e : j = i
      · rw [e]; exact z
      · exact h j (by omega)
theorem ag_cellAt {post : Int32 → St1 → Prop} {t : Nat} (hr : ag_rdy wl pd (nI t) a2 a3) (ht : t < 8) (ht1 : 1 ≤ t) {p q : Nat → Nat} (hp : ∀ w, w < 3 → a2 w = nI (p w) ∧ p w < 12) (hq : ∀ w, w < 3 → a3 w = nI (q w) ∧ q w < 12) (hd : ∀ i j, i < j → j < 3 → ag_bt t i → ag_bt t j → p i ≠ p j ∧ q i ≠ q j)
    {s0 go : Nat} (s0d : ag_dif (ag_kc t 3) s0) (gol : go < ag_bd (ag_kc t 3)) (s0c : ∀ i, i < ag_kc t 3 → ag_ce s0 i = p (ag_wh t i)) (goc : ∀ i, i < ag_kc t 3 → ag_ce go i = q (ag_wh t i)) (y z : Int32)
    (H : ∀ (r : Int32) (ctx efx bex pfx psx tnx : Int32) (a4x a5x a6x a7x a8x a9x a10x a11x a12x a13x a14x a15x a16x a17x a18x a19x a20x a21x : Nat → Int32), ag_CS (ag_tab wl a1) t p q s0 go y z r → post r (wl, pd, ctx, efx, bex, pfx, psx, tnx, a1, a2, a3, a4x, a5x, a6x, a7x, a8x, a9x, a10x, a11x, a12x, a13x, a14x, a15x, a16x, a17x, a18x, a19x, a20x, a21x)) : wpX_cellAt post (wl, pd, ct, ef, be, pf, ps, tn, a1, a2, a3, a4, a5, a6, a7, a8, a9, a10, a11, a12, a13, a14, a15, a16, a17, a18, a19, a20, a21) (nI t) y z := by
  unfold wpX_cellAt
  dsimp only
  refine ag_isReady (fun _ => br_f (by decide) ?_) (fun h => absurd hr h)
  have s0l := s0d.1
  have hT := ag_tab_ok wl a1
  obtain ⟨hk, hk1', _⟩ := ag_kc_3 t ht
  have hk1 := hk1' ht1
  have wok : ∀ i, i < ag_kc t 3 → ag_bt t (ag_wh t i) ∧ ag_wh t i < 3 ∧ ag_kc t (ag_wh t i) = i := fun i hi => ag_wh_ok t ht i (by omega) hi
  refine ag_plan (ef := 0) ht ht1 hp hq hd s0l gol s0c goc (fun r ctx bex pfx psx tnx a4x a5x a6x a7x a8x a9x a10x a11x a12x a13x a14x a15x a16x a17x a18x a19x a20x a21x h4 hPS => ?_)
  dsimp only
  rcases hPS with ⟨e, hno⟩ | ⟨f, e, fl, _, h0, _⟩
  · subst e
    exact br_f (by decide) (H _ _ _ _ _ _ _ _ _ _ _ _ _ _ _ _ _ _ _ _ _ _ _ _ _ (Or.inl ⟨rfl, hno⟩))
  · subst e
    obtain ⟨wf, mn⟩ := h0 rfl
    refine br_t (nI_pos' (by omega)) ?_
    by_cases hy : ∃ w, w < 3 ∧ y = nI w ∧ ag_bt t w
    · obtain ⟨w, hw, ey, hb⟩ := hy
      subst ey
      refine br_f (nI_pos (by omega)) (br_f (nI_ge (b := 3) hw (by decide)) (br_f (fun c => (ag_bit0 t ht w hw).mp c hb) ?_))
      by_cases hz : ∃ m, m ≤ f ∧ z = nI m
      · obtain ⟨m, hm, ez⟩ := hz
        subst ez
        refine br_f (nI_pos (by omega)) (br_t (nI_le hm (by omega)) ?_)
        refine ag_gather (ct := ctx) ht (fun b7 h7 => ?_)
        dsimp only
        have h7' : ∀ i, i < ag_kc t 3 → b7 i = nI (ag_wh t i) ∧ ag_wh t i < 3 := fun i hi => ⟨h7 i hi, (wok i hi).2.1⟩
        refine ag_findTurnsLeft hk1 hk hT h4 h7' (v := fun i => q (ag_wh t i)) (fun i hi => hq _ (wok i hi).2.1) gol goc (fun b8 b13 b14 g r8 tl => ?_)
        dsimp only
        refine ag_stateOf hk h7' (v := fun i => p (ag_wh t i)) (fun i hi => ⟨fun _ => (hp _ (wok i hi).2.1).1, fun c => absurd rfl c, (hp _ (wok i hi).2.1).2⟩) (fun u0 u0l u0c => ?_)
        have e0 : u0 = s0 := ag_ce_ext hk u0l s0l (fun i hi => by rw [u0c i hi, s0c i hi])
        subst e0
        obtain ⟨f17, gf⟩ := ag_TL_f tl s0d wf mn
        have key : ∃ n, (fun (n i : Nat) (u : Nat × (Nat → Int32) × (Nat → Int32)) => wX_cellAt_82 post (nI w) (nI m) n (nI u.1) (nI i) wl pd (nI (ag_kc t 3)) 0 bex pfx psx tnx a1 a2 a3 a4x a5x a6x b7 b8 a9x a10x a11x a12x u.2.1 u.2.2 a15x a16x a17x a18x a19x a20x a21x) n 0 (u0, b13, b14) := by
          refine pk_loop (fun (n i : Nat) (u : Nat × (Nat → Int32) × (Nat → Int32)) => wX_cellAt_82 post (nI w) (nI m) n (nI u.1) (nI i) wl pd (nI (ag_kc t 3)) 0 bex pfx psx tnx a1 a2 a3 a4x a5x a6x b7 b8 a9x a10x a11x a12x u.2.1 u.2.2 a15x a16x a17x a18x a19x a20x a21x) (fun i u => u.1 < 1728 ∧ gq_wk (ag_JC (ag_tab wl a1) (ag_kc t 3)) i u0 u.1 ∧ g u.1 = f - i) m 0 (u0, b13, b14) (by omega) ⟨ag_bd_lt s0l, rfl, gf⟩ ?_ ?_
          · rintro n ⟨s, c13, c14⟩ ⟨g1, g2, g3⟩
            dsimp only at g1 g2 g3 ⊢
            refine pk_le m m (fun _ => ?_) (fun c => absurd c (by omega))
            refine ag_layCells hk g1 (fun d13 h13 => ?_)
            obtain ⟨k1, k2⟩ := ag_wh_kc t ht w hw hb
            refine ag_ca111 ht h7 hw hb ?_
            rw [h13 _ k2]
            refine H _ _ _ _ _ _ _ _ _ _ _ _ _ _ _ _ _ _ _ _ _ _ _ _ _ (Or.inr ⟨f, wf, mn, Or.inr ⟨w, hw, rfl, hb, Or.inr ⟨m, ag_ce s (ag_kc t w), hm, rfl, ag_ce_lt _ _, rfl, ?_, ?_⟩⟩⟩)
            · have := ag_proj k2 g2
              rw [s0c _ k2, k1] at this
              exact this
            · have := ag_proj k2 (ag_JJ_wkC (ag_TL_wk tl (f - m) s g1 g3 (by omega)))
              rw [goc _ k2, k1] at this
              exact this
          · rintro n i ⟨s, c13, c14⟩ hi ⟨g1, g2, g3⟩ hwn
            dsimp only at g1 g2 g3 hwn ⊢
            refine pk_le m i (fun c => absurd c (by omega)) (fun _ => ?_)
            have gv : g s = (f - (i + 1)) + 1 := by omega
            refine ag_firstNext hk1 hk hT h4 g1 r8 tl.1 gv ((tl.2.2.1 s g1 (by omega)).2.2 _ gv) (fun d13 d14 s' hJ e => nm_r (nI_1 i) (hwn (s', d13, d14) ⟨ag_bd_lt hJ.1, gq_snoc g2 hJ, e⟩))
        exact key
      · have h4' : ∀ (cty efy bey pfy psy tny : Int32) (a4y a5y a6y a7y a8y a9y a10y a11y a12y a13y a14y a15y a16y a17y a18y a19y a20y a21y : Nat → Int32), post (-4) (wl, pd, cty, efy, bey, pfy, psy, tny, a1, a2, a3, a4y, a5y, a6y, a7y, a8y, a9y, a10y, a11y, a12y, a13y, a14y, a15y, a16y, a17y, a18y, a19y, a20y, a21y) := fun cty efy bey pfy psy tny a4y a5y a6y a7y a8y a9y a10y a11y a12y a13y a14y a15y a16y a17y a18y a19y a20y a21y => H _ _ _ _ _ _ _ _ _ _ _ _ _ _ _ _ _ _ _ _ _ _ _ _ _ (Or.inr ⟨f, wf, mn, Or.inr ⟨w, hw, rfl, hb, Or.inl ⟨rfl, hz⟩⟩⟩)
        refine br_c (fun _ => h4' _ _ _ _ _ _ _ _ _ _ _ _ _ _ _ _ _ _ _ _ _ _ _ _) (fun z0 => br_f (fun zf => ?_) (h4' _ _ _ _ _ _ _ _ _ _ _ _ _ _ _ _ _ _ _ _ _ _ _ _))
        obtain ⟨j, hj, ej⟩ := nI_of z0
        rw [ej] at zf
        exact hz ⟨j, (nI_leI hj (by omega)).mp zf, ej⟩
    · have h3' : ∀ (cty efy bey pfy psy tny : Int32) (a4y a5y a6y a7y a8y a9y a10y a11y a12y a13y a14y a15y a16y a17y a18y a19y a20y a21y : Nat → Int32), post (-3) (wl, pd, cty, efy, bey, pfy, psy, tny, a1, a2, a3, a4y, a5y, a6y, a7y, a8y, a9y, a10y, a11y, a12y, a13y, a14y, a15y, a16y, a17y, a18y, a19y, a20y, a21y) := fun cty efy bey pfy psy tny a4y a5y a6y a7y a8y a9y a10y a11y a12y a13y a14y a15y a16y a17y a18y a19y a20y a21y => H _ _ _ _ _ _ _ _ _ _ _ _ _ _ _ _ _ _ _ _ _ _ _ _ _ (Or.inr ⟨f, wf, mn, Or.inl ⟨rfl, hy⟩⟩)
      refine br_c (fun _ => h3' _ _ _ _ _ _ _ _ _ _ _ _ _ _ _ _ _ _ _ _ _ _ _ _) (fun y0 => br_c (fun _ => h3' _ _ _ _ _ _ _ _ _ _ _ _ _ _ _ _ _ _ _ _ _ _ _ _) (fun y3 => br_t ?_ (h3' _ _ _ _ _ _ _ _ _ _ _ _ _ _ _ _ _ _ _ _ _ _ _ _)))
      obtain ⟨j, hj, ej⟩ := nI_of y0
      have j3 : j < 3 := by
        rcases Nat.lt_or_ge j 3 with c | c
        · exact c
        · rw [ej] at y3
          exact absurd (nI_le (a := 3) c hj) y3
      rw [ej]
      exact (ag_bit0 t ht j j3).mpr (fun c => hy ⟨j, j3, ej, c⟩)
theorem ag_fastest {post : Int32 → St1 → Prop} {t : Nat} (hr : ag_rdy wl pd (nI t) a2 a3) (ht : t < 8) (ht1 : 1 ≤ t) {p q : Nat → Nat} (hp : ∀ w, w < 3 → a2 w = nI (p w) ∧ p w < 12) (hq : ∀ w, w < 3 → a3 w = nI (q w) ∧ q w < 12) (hd : ∀ i j, i < j → j < 3 → ag_bt t i → ag_bt t j → p i ≠ p j ∧ q i ≠ q j)
    {s0 go : Nat} (s0l : s0 < ag_bd (ag_kc t 3)) (gol : go < ag_bd (ag_kc t 3)) (s0c : ∀ i, i < ag_kc t 3 → ag_ce s0 i = p (ag_wh t i)) (goc : ∀ i, i < ag_kc t 3 → ag_ce go i = q (ag_wh t i))
    (H : ∀ (r : Int32) (ctx efx bex pfx psx tnx : Int32) (a4x a5x a6x a7x a8x a9x a10x a11x a12x a13x a14x a15x a16x a17x a18x a19x a20x a21x : Nat → Int32), ag_PS (ag_tab wl a1) (ag_kc t 3) 0 s0 go r → post r (wl, pd, ctx, efx, bex, pfx, psx, tnx, a1, a2, a3, a4x, a5x, a6x, a7x, a8x, a9x, a10x, a11x, a12x, a13x, a14x, a15x, a16x, a17x, a18x, a19x, a20x, a21x)) : wpX_fastest post (wl, pd, ct, ef, be, pf, ps, tn, a1, a2, a3, a4, a5, a6, a7, a8, a9, a10, a11, a12, a13, a14, a15, a16, a17, a18, a19, a20, a21) (nI t) := by
  unfold wpX_fastest
  dsimp only
  refine ag_isReady (fun _ => br_f (by decide) ?_) (fun h => absurd hr h)
  exact ag_plan (ef := 0) ht ht1 hp hq hd s0l gol s0c goc (fun r ctx bex pfx psx tnx a4x a5x a6x a7x a8x a9x a10x a11x a12x a13x a14x a15x a16x a17x a18x a19x a20x a21x h4 hPS => H r _ _ _ _ _ _ _ _ _ _ _ _ _ _ _ _ _ _ _ _ _ _ _ _ hPS)
theorem ag_easiest {post : Int32 → St1 → Prop} {t : Nat} (hr : ag_rdy wl pd (nI t) a2 a3) (ht : t < 8) (ht1 : 1 ≤ t) {p q : Nat → Nat} (hp : ∀ w, w < 3 → a2 w = nI (p w) ∧ p w < 12) (hq : ∀ w, w < 3 → a3 w = nI (q w) ∧ q w < 12) (hd : ∀ i j, i < j → j < 3 → ag_bt t i → ag_bt t j → p i ≠ p j ∧ q i ≠ q j)
    {s0 go : Nat} (s0l : s0 < ag_bd (ag_kc t 3)) (gol : go < ag_bd (ag_kc t 3)) (s0c : ∀ i, i < ag_kc t 3 → ag_ce s0 i = p (ag_wh t i)) (goc : ∀ i, i < ag_kc t 3 → ag_ce go i = q (ag_wh t i))
    (H : ∀ (r : Int32) (ctx efx bex pfx psx tnx : Int32) (a4x a5x a6x a7x a8x a9x a10x a11x a12x a13x a14x a15x a16x a17x a18x a19x a20x a21x : Nat → Int32), ag_PS (ag_tab wl a1) (ag_kc t 3) 1 s0 go r → post r (wl, pd, ctx, efx, bex, pfx, psx, tnx, a1, a2, a3, a4x, a5x, a6x, a7x, a8x, a9x, a10x, a11x, a12x, a13x, a14x, a15x, a16x, a17x, a18x, a19x, a20x, a21x)) : wpX_easiest post (wl, pd, ct, ef, be, pf, ps, tn, a1, a2, a3, a4, a5, a6, a7, a8, a9, a10, a11, a12, a13, a14, a15, a16, a17, a18, a19, a20, a21) (nI t) := by
  unfold wpX_easiest
  dsimp only
  refine ag_isReady (fun _ => br_f (by decide) ?_) (fun h => absurd hr h)
  exact ag_plan (ef := 1) ht ht1 hp hq hd s0l gol s0c goc (fun r ctx bex pfx psx tnx a4x a5x a6x a7x a8x a9x a10x a11x a12x a13x a14x a15x a16x a17x a18x a19x a20x a21x h4 hPS => H r _ _ _ _ _ _ _ _ _ _ _ _ _ _ _ _ _ _ _ _ _ _ _ _ hPS)
theorem ag_not {x : Int32} (hn : ¬ ag_rdy wl pd x a2 a3) {post : Int32 → St1 → Prop} (H : post (-1) (wl, pd, ct, ef, be, pf, ps, tn, a1, a2, a3, a4, a5, a6, a7, a8, a9, a10, a11, a12, a13, a14, a15, a16, a17, a18, a19, a20, a21)) : wpX_fastest post (wl, pd, ct, ef, be, pf, ps, tn, a1, a2, a3, a4, a5, a6, a7, a8, a9, a10, a11, a12, a13, a14, a15, a16, a17, a18, a19, a20, a21) x ∧ wpX_easiest post (wl, pd, ct, ef, be, pf, ps, tn, a1, a2, a3, a4, a5, a6, a7, a8, a9, a10, a11, a12, a13, a14, a15, a16, a17, a18, a19, a20, a21) x ∧ wpX_swarm post (wl, pd, ct, ef, be, pf, ps, tn, a1, a2, a3, a4, a5, a6, a7, a8, a9, a10, a11, a12, a13, a14, a15, a16, a17, a18, a19, a20, a21) x ∧ wpX_arrangements post (wl, pd, ct, ef, be, pf, ps, tn, a1, a2, a3, a4, a5, a6, a7, a8, a9, a10, a11, a12, a13, a14, a15, a16, a17, a18, a19, a20, a21) x ∧ (∀ y z, wpX_cellAt post (wl, pd, ct, ef, be, pf, ps, tn, a1, a2, a3, a4, a5, a6, a7, a8, a9, a10, a11, a12, a13, a14, a15, a16, a17, a18, a19, a20, a21) x y z) ∧ wpX_needed post (wl, pd, ct, ef, be, pf, ps, tn, a1, a2, a3, a4, a5, a6, a7, a8, a9, a10, a11, a12, a13, a14, a15, a16, a17, a18, a19, a20, a21) x ∧ wpX_turnRound post (wl, pd, ct, ef, be, pf, ps, tn, a1, a2, a3, a4, a5, a6, a7, a8, a9, a10, a11, a12, a13, a14, a15, a16, a17, a18, a19, a20, a21) x := by
  refine ⟨?_, ?_, ?_, ?_, fun y z => ?_, ?_, ?_⟩
  · unfold wpX_fastest
    dsimp only
    refine ag_isReady (fun h => absurd h hn) (fun _ => ?_)
    exact br_t rfl H
  · unfold wpX_easiest
    dsimp only
    refine ag_isReady (fun h => absurd h hn) (fun _ => ?_)
    exact br_t rfl H
  · unfold wpX_swarm
    dsimp only
    refine ag_isReady (fun h => absurd h hn) (fun _ => ?_)
    exact br_t rfl H
  · unfold wpX_arrangements
    dsimp only
    refine ag_isReady (fun h => absurd h hn) (fun _ => ?_)
    exact br_t rfl H
  · unfold wpX_cellAt
    dsimp only
    refine ag_isReady (fun h => absurd h hn) (fun _ => ?_)
    exact br_t rfl H
  · unfold wpX_needed
    dsimp only
    refine ag_isReady (fun h => absurd h hn) (fun _ => ?_)
    exact br_t rfl H
  · unfold wpX_turnRound
    dsimp only
    refine ag_isReady (fun h => absurd h hn) (fun _ => ?_)
    exact br_t rfl H
end
end
section
/-- the queue of the arrangements found -/
def ag_QI (T : Nat → Int32) (k s0 n : Nat) (Q : Nat → Nat) (cl : Nat → Prop) : Prop :=
  (∀ i, i < n → ag_dif k (Q i) ∧ ∃ m, gq_wk (ag_JJ T k) m s0 (Q i)) ∧ (∀ i j, i < n → j < n → Q i = Q j → i = j) ∧ ∀ s, cl s ↔ ∃ i, i < n ∧ Q i = s
theorem ag_QI_add {T : Nat → Int32} {k s0 n s : Nat} {Q : Nat → Nat} {cl : Nat → Prop} (h : ag_QI T k s0 n Q cl) (hd : ag_dif k s) (hw : ∃ m, gq_wk (ag_JJ T k) m s0 s) (hc : ¬ cl s) : n < 1728 ∧ ag_QI T k s0 (n + 1) (fun i => if i = n then s else Q i) (fun x => x = s ∨ cl x) := by
  obtain ⟨h1, h2, h3⟩ := h
  have hn : ∀ i, i < n → Q i ≠ s := fun i hi e => hc ((h3 s).mpr ⟨i, hi, e⟩)
  have inj : ∀ i j, i < n + 1 → j < n + 1 → (if i = n then s else Q i) = (if j = n then s else Q j) → i = j := by
    intro i j hi hj e
    by_cases a : i = n
    · by_cases b : j = n
      · omega
      · rw [if_pos a, if_neg b] at e
        exact absurd e.symm (hn j (by omega))
    · by_cases b : j = n
      · rw [if_neg a, if_pos b] at e
        exact absurd e (hn i (by omega))
      · rw [if_neg a, if_neg b] at e
        exact h2 i j (by omega) (by omega) e
  have all : ∀ i, i < n + 1 → ag_dif k (if i = n then s else Q i) ∧ ∃ m, gq_wk (ag_JJ T k) m s0 (if i = n then s else Q i) := by
    intro i hi
    by_cases a : i = n
    · rw [if_pos a]; exact ⟨hd, hw⟩
    · rw [if_neg a]; exact h1 i (by omega)
  have := gq_pig 1728 (n + 1) (fun i => if i = n then s else Q i) (fun i hi => ag_bd_lt (all i hi).1.1) inj
  refine ⟨by omega, all, inj, fun x => ⟨fun hx => ?_, fun hx => ?_⟩⟩
  · rcases hx with z | z
    · exact ⟨n, by omega, (if_pos rfl).trans z.symm⟩
    · obtain ⟨i, hi, e⟩ := (h3 x).mp z
      exact ⟨i, by omega, (if_neg (by omega)).trans e⟩
  · obtain ⟨i, hi, e⟩ := hx
    try dsimp only at e
    by_cases a : i = n
    · rw [if_pos a] at e
      exact Or.inl e.symm
    · rw [if_neg a] at e
      exact Or.inr ((h3 x).mpr ⟨i, by omega, e⟩)
/-- what the number of arrangements is -/
def ag_SN (T : Nat → Int32) (k s0 n : Nat) : Prop := ∃ Q : Nat → Nat, (∀ i, i < n → ag_dif k (Q i)) ∧ (∀ i j, i < n → j < n → Q i = Q j → i = j) ∧ ∀ m s, gq_wk (ag_JJ T k) m s0 s → ∃ i, i < n ∧ Q i = s
theorem ag_SN_1 {T : Nat → Int32} {k s0 n : Nat} (h : ag_SN T k s0 n) : 1 ≤ n := by
  obtain ⟨Q, _, _, h3⟩ := h
  obtain ⟨i, hi, _⟩ := h3 0 s0 rfl
  omega
/-- a shortest walk into G is shorter than the number of arrangements -/
theorem ag_SN_lt {T : Nat → Int32} {k s0 n : Nat} (h : ag_SN T k s0 n) {G : Nat → Prop} {f : Nat} (hf : ∃ b, G b ∧ gq_wk (ag_JJ T k) f s0 b) (hm : ∀ m, m < f → ¬ ∃ b, G b ∧ gq_wk (ag_JJ T k) m s0 b) : f < n := by
  obtain ⟨Q, h1, h2, h3⟩ := h
  obtain ⟨v, v0, _, vs, vi⟩ := gq_short hf hm
  have hx : ∀ i, ∃ j, i ≤ f → j < n ∧ Q j = v i := by
    intro i
    by_cases c : i ≤ f
    · have w := gq_of vs i 0 (by omega)
      rw [Nat.zero_add, v0] at w
      obtain ⟨j, hj, e⟩ := h3 i (v i) w
      exact ⟨j, fun _ => ⟨hj, e⟩⟩
    · exact ⟨0, fun z => absurd z c⟩
  have hF : ∃ F : Nat → Nat, ∀ i, i ≤ f → F i < n ∧ Q (F i) = v i := ⟨fun i => Classical.choose (hx i), fun i hi => Classical.choose_spec (hx i) hi⟩
  obtain ⟨F, hF⟩ := hF
  have := gq_pig n (f + 1) F (fun i hi => (hF i (by omega)).1) (fun i j hi hj e => vi i j (by omega) (by omega) (by rw [← (hF i (by omega)).2, ← (hF j (by omega)).2, e]))
  omega
def ag_rk (x y z : Nat) : Nat := x + 12 * (if x < y then y - 1 else y) + 132 * (if x < z then (if y < z then z - 2 else z - 1) else if y < z then z - 1 else z)
theorem ag_rk_inj {x y z x' y' z' : Nat} (hx : x < 12) (hy : y < 12) (hz : z < 12) (h1 : x ≠ y) (h2 : x ≠ z) (h3 : y ≠ z) (hx' : x' < 12) (hy' : y' < 12) (hz' : z' < 12) (h1' : x' ≠ y') (h2' : x' ≠ z') (h3' : y' ≠ z') (e : ag_rk x y z = ag_rk x' y' z') : x = x' ∧ y = y' ∧ z = z' := by
  unfold ag_rk at e
  have a1 : (if x < y then y - 1 else y) < 11 := by
    by_cases c : x < y
    · rw [if_pos c]; omega
    · rw [if_neg c]; omega
  have a2 : (if x' < y' then y' - 1 else y') < 11 := by
    by_cases c : x' < y'
    · rw [if_pos c]; omega
    · rw [if_neg c]; omega
  have e1 : x = x' := by omega
  have e2 : (if x < y then y - 1 else y) = (if x' < y' then y' - 1 else y') := by omega
  have e3 : (if x < z then (if y < z then z - 2 else z - 1) else if y < z then z - 1 else z) = (if x' < z' then (if y' < z' then z' - 2 else z' - 1) else if y' < z' then z' - 1 else z') := by omega
  subst e1
  have e4 : y = y' := by
    by_cases c : x < y
    · rw [if_pos c] at e2
      by_cases d : x < y'
      · rw [if_pos d] at e2; omega
      · rw [if_neg d] at e2; omega
    · rw [if_neg c] at e2
      by_cases d : x < y'
      · rw [if_pos d] at e2; omega
      · rw [if_neg d] at e2; omega
  subst e4
  refine ⟨rfl, rfl, ?_⟩
  clear e e2 a1 a2
  by_cases c1 : x < z <;> by_cases c2 : y < z <;> by_cases c3 : x < z' <;> by_cases c4 : y < z' <;> simp only [c1, c2, c3, c4, if_true, if_false] at e3 <;> omega
theorem ag_rk_lt {x y z : Nat} (hx : x < 12) (hy : y < 12) (hz : z < 12) (h1 : x ≠ y) (h2 : x ≠ z) (h3 : y ≠ z) : ag_rk x y z < 1320 := by
  unfold ag_rk
  have a1 : (if x < y then y - 1 else y) < 11 := by
    by_cases c : x < y
    · rw [if_pos c]; omega
    · rw [if_neg c]; omega
  have a2 : (if x < z then (if y < z then z - 2 else z - 1) else if y < z then z - 1 else z) < 10 := by
    by_cases c1 : x < z <;> by_cases c2 : y < z <;> simp only [c1, c2, if_true, if_false] <;> omega
  omega
def ag_most (k : Nat) : Nat := if k = 1 then 12 else if k = 2 then 132 else 1320
theorem ag_SN_le {T : Nat → Int32} {k s0 n : Nat} (hk1 : 1 ≤ k) (hk : k ≤ 3) (h : ag_SN T k s0 n) : n ≤ ag_most k := by
  obtain ⟨Q, h1, h2, _⟩ := h
  have : k = 1 ∨ k = 2 ∨ k = 3 := by omega
  rcases this with z | z | z <;> subst z
  · exact gq_pig 12 n Q (fun i hi => (h1 i hi).1) h2
  · have ne : ∀ i, i < n → Q i % 12 ≠ Q i / 12 % 12 := fun i hi => (h1 i hi).2 0 1 (by omega) (by omega)
    have l : ∀ i, i < n → Q i < 144 := fun i hi => (h1 i hi).1
    refine gq_pig 132 n (fun i => Q i % 12 + 12 * (if Q i % 12 < Q i / 12 then Q i / 12 - 1 else Q i / 12)) (fun i hi => ?_) (fun i j hi hj e => h2 i j hi hj ?_)
    · have := l i hi
      have := ne i hi
      try dsimp only
      by_cases c : Q i % 12 < Q i / 12
      · rw [if_pos c]; omega
      · rw [if_neg c]; omega
    · have := l i hi
      have := ne i hi
      have := l j hj
      have := ne j hj
      try dsimp only at e
      by_cases c : Q i % 12 < Q i / 12
      · rw [if_pos c] at e
        by_cases d : Q j % 12 < Q j / 12
        · rw [if_pos d] at e; omega
        · rw [if_neg d] at e; omega
      · rw [if_neg c] at e
        by_cases d : Q j % 12 < Q j / 12
        · rw [if_pos d] at e; omega
        · rw [if_neg d] at e; omega
  · refine gq_pig 1320 n (fun i => ag_rk (ag_ce (Q i) 0) (ag_ce (Q i) 1) (ag_ce (Q i) 2)) (fun i hi => ?_) (fun i j hi hj e => h2 i j hi hj ?_)
    · obtain ⟨d1, d2⟩ := h1 i hi
      exact ag_rk_lt (ag_ce_lt _ _) (ag_ce_lt _ _) (ag_ce_lt _ _) (d2 0 1 (by omega) (by omega)) (d2 0 2 (by omega) (by omega)) (d2 1 2 (by omega) (by omega))
    · obtain ⟨d1, d2⟩ := h1 i hi
      obtain ⟨d1', d2'⟩ := h1 j hj
      obtain ⟨x1, x2, x3⟩ := ag_rk_inj (ag_ce_lt _ _) (ag_ce_lt _ _) (ag_ce_lt _ _) (d2 0 1 (by omega) (by omega)) (d2 0 2 (by omega) (by omega)) (d2 1 2 (by omega) (by omega)) (ag_ce_lt _ _) (ag_ce_lt _ _) (ag_ce_lt _ _) (d2' 0 1 (by omega) (by omega)) (d2' 0 2 (by omega) (by omega)) (d2' 1 2 (by omega) (by omega)) e
      refine ag_ce_ext (k := 3) (by omega) d1 d1' (fun a ha => ?_)
      rcases ag_i3 ha with y | y | y <;> subst y
      · exact x1
      · exact x2
      · exact x3
section
variable {wl pd ct ef be pf ps tn : Int32} {a1 a2 a3 a4 a5 a6 a7 a8 a9 a10 a11 a12 a13 a14 a15 a16 a17 a18 a19 a20 a21 : Nat → Int32}
theorem ag_enqueue {post : Int32 → St1 → Prop} {k : Nat} (hk1 : 1 ≤ k) (hk : k ≤ 3) {T : Nat → Int32} (hT : ag_TOK T) (h4 : ∀ j, j < 48 → a4 j = T j) {s : Nat} (h13 : ∀ i, i < k → a13 i = nI (ag_ce s i)) {s0 n : Nat} {Q : Nat → Nat} {cl : Nat → Prop} (hw : ∃ m, gq_wk (ag_JJ T k) m s0 s) (qi : ag_QI T k s0 n Q cl) (nl : n ≤ 1728) (r10 : ag_r10 a10 cl) (r12 : ∀ i, i < n → a12 i = nI (Q i))
    (H : ∀ n' b10 b12 b14 Q' cl', ag_QI T k s0 n' Q' cl' → n ≤ n' → n' ≤ 1728 → ag_r10 b10 cl' → (∀ i, i < n' → b12 i = nI (Q' i)) → (∀ i, i < n → Q' i = Q i) → (∀ s', ag_JJ T k s s' → cl' s') → post (nI n') (wl, pd, nI k, ef, be, pf, ps, tn, a1, a2, a3, a4, a5, a6, a7, a8, a9, b10, a11, b12, a13, b14, a15, a16, a17, a18, a19, a20, a21)) : wpX_enqueue post (wl, pd, nI k, ef, be, pf, ps, tn, a1, a2, a3, a4, a5, a6, a7, a8, a9, a10, a11, a12, a13, a14, a15, a16, a17, a18, a19, a20, a21) (nI n) := by
  unfold wpX_enqueue
  try dsimp only
  refine ag_choices hk1 hk ?_
  have hcs := ag_cs_le (k := k)
  have key : ∃ f, (fun (f i : Nat) (u : Nat × (Nat → Int32) × (Nat → Int32) × (Nat → Int32)) => wX_enqueue_10 post (nI (ag_cs k)) f (nI u.1) (nI i) wl pd (nI k) ef be pf ps tn a1 a2 a3 a4 a5 a6 a7 a8 a9 u.2.1 a11 u.2.2.1 a13 u.2.2.2 a15 a16 a17 a18 a19 a20 a21) f 1 (n, a10, a12, a14) := by
    refine pk_loop (fun (f i : Nat) (u : Nat × (Nat → Int32) × (Nat → Int32) × (Nat → Int32)) => wX_enqueue_10 post (nI (ag_cs k)) f (nI u.1) (nI i) wl pd (nI k) ef be pf ps tn a1 a2 a3 a4 a5 a6 a7 a8 a9 u.2.1 a11 u.2.2.1 a13 u.2.2.2 a15 a16 a17 a18 a19 a20 a21) (fun i u => 1 ≤ i ∧ ∃ Q' cl', ag_QI T k s0 u.1 Q' cl' ∧ n ≤ u.1 ∧ u.1 ≤ 1728 ∧ ag_r10 u.2.1 cl' ∧ (∀ i, i < u.1 → u.2.2.1 i = nI (Q' i)) ∧ (∀ i, i < n → Q' i = Q i) ∧ ∀ c, 1 ≤ c → c < i → ∀ s', ag_J1 T k s c s' → cl' s') (ag_cs k) 1 (n, a10, a12, a14) ?_ ⟨by omega, Q, cl, qi, Nat.le_refl _, nl, r10, r12, fun _ _ => rfl, fun c c1 c2 => absurd c2 (by omega)⟩ ?_ ?_
    · rcases ag_k3 hk with z | z | z | z <;> subst z <;> decide
    · rintro f ⟨n', b10, b12, b14⟩ ⟨_, Q', cl', f1, f2, f3, f4, f5, f6, f7⟩
      refine pk_le (ag_cs k) (ag_cs k) (fun _ => H n' b10 b12 b14 Q' cl' f1 f2 f3 f4 f5 f6 (fun s' hJ => ?_)) (fun z => absurd z (by omega))
      obtain ⟨c, c1, c2, c3⟩ := hJ
      exact f7 c c1 c2 s' c3
    · rintro f i ⟨n', b10, b12, b14⟩ hi ⟨i1, Q', cl', f1, f2, f3, f4, f5, f6, f7⟩ hwn
      try dsimp only at f1 f2 f3 f4 f5 hwn ⊢
      refine pk_le (ag_cs k) i (fun z => absurd z (by omega)) (fun _ => ?_)
      refine ag_chosen hk1 hk hT h4 hi h13 (fun c14 s' hJ h14 => ?_) (fun c14 hJ => ?_)
      · have l := ag_bd_lt hJ.1
        refine br_f (nI_pos (by omega)) ⟨pk_in s' 1728 l, ?_⟩
        rw [nI_clamp (show s' < 2 ^ 31 by omega)]
        by_cases hc : cl' s'
        · refine br_f (by rw [(f4 s' l).1 hc]; decide) (nm_r (nI_1 i) (hwn (n', b10, b12, c14) ⟨by omega, Q', cl', f1, f2, f3, f4, f5, f6, fun c c1 c2 s'' hJ' => ?_⟩))
          by_cases e : c = i
          · rw [e] at hJ'
            rw [ag_J1_det hk hJ' hJ]
            exact hc
          · exact f7 c c1 (by omega) s'' hJ'
        · have JJ : ag_JJ T k s s' := ⟨i, i1, hi, hJ⟩
          obtain ⟨m, hm⟩ := hw
          obtain ⟨a1, a2⟩ := ag_QI_add f1 (ag_JC_dif (ag_J1_C hJ)) ⟨m + 1, gq_snoc hm JJ⟩ hc
          refine br_t ((f4 s' l).2 hc) ⟨pk_in s' 1728 l, nm_e ⟨pk_in n' 1728 a1, nm_r (e' := upd b12 n' (nI s')) (by rw [nI_clamp (by omega)]) (nm_r (nI_1 n') (nm_r (nI_1 i) (hwn (n' + 1, _, upd b12 n' (nI s'), c14) ⟨by omega, _, _, a2, by dsimp only; omega, a1, fun x hx => ⟨fun c => ?_, fun c => ?_⟩, fun j hj => ?_, fun j hj => ?_, fun c c1 c2 s'' hJ' => ?_⟩)))⟩⟩
          · try dsimp only at c ⊢
            by_cases e : x = s'
            · rw [e]; exact pk_us
            · exact (pk_un e).trans ((f4 x hx).1 (c.resolve_left e))
          · exact (pk_un (fun e => c (Or.inl e))).trans ((f4 x hx).2 (fun z => c (Or.inr z)))
          · try dsimp only at hj ⊢
            by_cases e : j = n'
            · rw [e, pk_us, if_pos rfl]
            · rw [pk_un e, if_neg e]
              exact f5 j (by omega)
          · try dsimp only
            rw [if_neg (by omega)]
            exact f6 j hj
          · by_cases e : c = i
            · rw [e] at hJ'
              exact Or.inl (ag_J1_det hk hJ' hJ)
            · exact Or.inr (f7 c c1 (by omega) s'' hJ')
      · refine br_t (by decide) (nm_r (nI_1 i) (hwn (n', b10, b12, c14) ⟨by omega, Q', cl', f1, f2, f3, f4, f5, f6, fun c c1 c2 s'' hJ' => ?_⟩))
        by_cases e : c = i
        · rw [e] at hJ'
          exact absurd hJ' (hJ s'')
        · exact f7 c c1 (by omega) s'' hJ'
  exact key
theorem ag_arrangements {post : Int32 → St1 → Prop} {t : Nat} (hr : ag_rdy wl pd (nI t) a2 a3) (ht : t < 8) (ht1 : 1 ≤ t) {p : Nat → Nat} (hp : ∀ w, w < 3 → a2 w = nI (p w) ∧ p w < 12)
    {s0 : Nat} (s0d : ag_dif (ag_kc t 3) s0) (s0c : ∀ i, i < ag_kc t 3 → ag_ce s0 i = p (ag_wh t i))
    (H : ∀ (n : Nat) (ctx efx bex pfx psx tnx : Int32) (a4x a5x a6x a7x a8x a9x a10x a11x a12x a13x a14x a15x a16x a17x a18x a19x a20x a21x : Nat → Int32), n ≤ 1728 → ag_SN (ag_tab wl a1) (ag_kc t 3) s0 n → post (nI n) (wl, pd, ctx, efx, bex, pfx, psx, tnx, a1, a2, a3, a4x, a5x, a6x, a7x, a8x, a9x, a10x, a11x, a12x, a13x, a14x, a15x, a16x, a17x, a18x, a19x, a20x, a21x)) : wpX_arrangements post (wl, pd, ct, ef, be, pf, ps, tn, a1, a2, a3, a4, a5, a6, a7, a8, a9, a10, a11, a12, a13, a14, a15, a16, a17, a18, a19, a20, a21) (nI t) := by
  unfold wpX_arrangements
  try dsimp only
  refine ag_isReady (fun _ => br_f (by decide) ?_) (fun h => absurd hr h)
  have s0l := s0d.1
  have hT := ag_tab_ok wl a1
  obtain ⟨hk, hk1', _⟩ := ag_kc_3 t ht
  have hk1 := hk1' ht1
  have wok : ∀ i, i < ag_kc t 3 → ag_bt t (ag_wh t i) ∧ ag_wh t i < 3 ∧ ag_kc t (ag_wh t i) = i := fun i hi => ag_wh_ok t ht i (by omega) hi
  refine ag_laySteps (fun b4 h4 => ?_)
  try dsimp only
  refine ag_gather (ct := ct) ht (fun b7 h7 => ?_)
  try dsimp only
  have h7' : ∀ i, i < ag_kc t 3 → b7 i = nI (ag_wh t i) ∧ ag_wh t i < 3 := fun i hi => ⟨h7 i hi, (wok i hi).2.1⟩
  refine pk_loop (fun n i s => wX_arrangements_21 post wl pd (nI (ag_kc t 3)) ef be pf ps tn n (nI i) a1 a2 a3 b4 a5 a6 b7 a8 a9 s a11 a12 a13 a14 a15 a16 a17 a18 a19 a20 a21) (fun i s => ∀ j, j < i → s j = 0) 1728 0 a10 (by omega) (fun j hj => absurd hj (by omega)) ?_ ?_
  · intro n b10 h
    refine pk_le 1728 1728 (fun _ => ?_) (fun z => absurd z (by omega))
    refine ag_stateOf hk h7' (v := fun i => p (ag_wh t i)) (fun i hi => ⟨fun _ => (hp _ (wok i hi).2.1).1, fun c => absurd rfl c, (hp _ (wok i hi).2.1).2⟩) (fun u0 u0l u0c => ?_)
    have e0 : u0 = s0 := ag_ce_ext hk u0l s0l (fun i hi => by rw [u0c i hi, s0c i hi])
    subst e0
    have u0l' := ag_bd_lt u0l
    refine nm_e ?_
    have e12 : upd a12 0 (nI u0) 0 = nI u0 := pk_us
    refine ⟨pk_in u0 1728 u0l' e12, nm_r (e' := upd b10 u0 1) (by rw [e12, nI_clamp (by omega)]) ?_⟩
    have key : ∃ f, (fun (f i : Nat) (u : Nat × (Nat → Int32) × (Nat → Int32) × (Nat → Int32) × (Nat → Int32)) => wX_arrangements_68 post f (nI u.1) (nI i) wl pd (nI (ag_kc t 3)) ef be pf ps tn a1 a2 a3 b4 a5 a6 b7 a8 a9 u.2.1 a11 u.2.2.1 u.2.2.2.1 u.2.2.2.2 a15 a16 a17 a18 a19 a20 a21) f 0 (1, upd b10 u0 1, upd a12 0 (nI u0), a13, a14) := by
      refine pk_loop (fun (f i : Nat) (u : Nat × (Nat → Int32) × (Nat → Int32) × (Nat → Int32) × (Nat → Int32)) => wX_arrangements_68 post f (nI u.1) (nI i) wl pd (nI (ag_kc t 3)) ef be pf ps tn a1 a2 a3 b4 a5 a6 b7 a8 a9 u.2.1 a11 u.2.2.1 u.2.2.2.1 u.2.2.2.2 a15 a16 a17 a18 a19 a20 a21) (fun i u => ∃ Q cl, ag_QI (ag_tab wl a1) (ag_kc t 3) u0 u.1 Q cl ∧ u.1 ≤ 1728 ∧ ag_r10 u.2.1 cl ∧ (∀ j, j < u.1 → u.2.2.1 j = nI (Q j)) ∧ cl u0 ∧ ∀ j, j < i → j < u.1 → ∀ s', ag_JJ (ag_tab wl a1) (ag_kc t 3) (Q j) s' → cl s') 1728 0 (1, upd b10 u0 1, upd a12 0 (nI u0), a13, a14) (by omega) ?_ ?_ ?_
      · refine ⟨fun _ => u0, fun s => s = u0, ⟨fun i hi => ⟨s0d, 0, rfl⟩, fun i j hi hj _ => ?_, fun s => ⟨fun e => ⟨0, ?_, e.symm⟩, fun ⟨i, _, e⟩ => e.symm⟩⟩, ?_, fun s hs => ⟨fun e => ?_, fun e => ?_⟩, fun j hj => ?_, rfl, fun j hj => absurd hj (by omega)⟩
        · try dsimp only at hi hj
          omega
        · try dsimp only
          omega
        · try dsimp only
          omega
        · try dsimp only at e ⊢
          rw [e]; exact pk_us
        · exact (pk_un e).trans (h s hs)
        · try dsimp only at hj ⊢
          rw [show j = 0 by omega]
          exact pk_us
      · rintro f ⟨n', c10, c12, c13, c14⟩ ⟨Q, cl, f1, f2, f3, f4, f5, f6⟩
        try dsimp only at f1 f2 f3 f4 f6 ⊢
        refine pk_le n' 1728 (fun _ => H n' _ _ _ _ _ _ _ _ _ _ _ _ _ _ _ _ _ _ _ _ _ _ _ _ f2 ⟨Q, fun i hi => (f1.1 i hi).1, f1.2.1, fun m s hw => ?_⟩) (fun z => absurd z (by omega))
        have all : ∀ m a b, cl a → gq_wk (ag_JJ (ag_tab wl a1) (ag_kc t 3)) m a b → cl b := by
          intro m
          induction m with
          | zero =>
            intro a b ha hw
            have hw' : a = b := hw
            rw [← hw']
            exact ha
          | succ m ih =>
            intro a b ha hw
            obtain ⟨d, d1, d2⟩ := hw
            obtain ⟨i, hi, e⟩ := (f1.2.2 a).mp ha
            exact ih d b (f6 i (by omega) hi d (by rw [e]; exact d1)) d2
        exact (f1.2.2 s).mp (all m u0 s f5 hw)
      · rintro f i ⟨n', c10, c12, c13, c14⟩ hi ⟨Q, cl, f1, f2, f3, f4, f5, f6⟩ hwn
        try dsimp only at f1 f2 f3 f4 f6 hwn ⊢
        refine pk_le n' i (fun y => H n' _ _ _ _ _ _ _ _ _ _ _ _ _ _ _ _ _ _ _ _ _ _ _ _ f2 ⟨Q, fun i hi => (f1.1 i hi).1, f1.2.1, fun m s hw => ?_⟩) (fun y => ?_)
        · have all : ∀ m a b, cl a → gq_wk (ag_JJ (ag_tab wl a1) (ag_kc t 3)) m a b → cl b := by
            intro m
            induction m with
            | zero =>
              intro a b ha hw
              have hw' : a = b := hw
              rw [← hw']
              exact ha
            | succ m ih =>
              intro a b ha hw
              obtain ⟨d, d1, d2⟩ := hw
              obtain ⟨j, hj, e⟩ := (f1.2.2 a).mp ha
              exact ih d b (f6 j (by omega) hj d (by rw [e]; exact d1)) d2
          exact (f1.2.2 s).mp (all m u0 s f5 hw)
        · refine pk_le 1728 i (fun z => absurd z (by omega)) (fun _ => ⟨pk_in i 1728 hi, ?_⟩)
          rw [nI_clamp (show i < 2 ^ 31 by omega), f4 i y]
          refine ag_layCells hk (ag_bd_lt (f1.1 i y).1.1) (fun d13 h13 => ?_)
          try dsimp only
          refine ag_enqueue hk1 hk hT h4 h13 (f1.1 i y).2 f1 f2 f3 f4 (fun n2 d10 d12 d14 Q2 cl2 e1 e2 e3 e4 e5 e6 e7 => ?_)
          refine nm_r (nI_1 i) (hwn (n2, d10, d12, d13, d14) ⟨Q2, cl2, e1, e3, e4, e5, ?_, fun j hj hj2 s' hJ => ?_⟩)
          · obtain ⟨j, hj, e⟩ := (f1.2.2 u0).mp f5
            exact (e1.2.2 u0).mpr ⟨j, by omega, by rw [e6 j hj]; exact e⟩
          · by_cases z : j = i
            · rw [z, e6 i y] at hJ
              exact e7 s' hJ
            · rw [e6 j (by omega)] at hJ
              obtain ⟨a, ha, e⟩ := (f1.2.2 s').mp (f6 j (by omega) (by omega) s' hJ)
              exact (e1.2.2 s').mpr ⟨a, by omega, by rw [e6 a ha]; exact e⟩
    exact key
  · intro n i s hi h hw
    refine pk_le 1728 i (fun z => absurd z (by omega)) (fun _ => ⟨pk_in i 1728 hi, nm_e (nm_r (nI_1 i) (hw _ ?_))⟩)
    exact ag_fill (f := fun _ => 0) (nI_clamp (by omega)) h rfl
end
end
section
/-- flows through copies of the grid: v = 12 * turn + cell; us: used, ff: from where, ft: to where -/
def fl_St (T : Nat → Int32) (v w : Nat) : Prop := w / 12 = v / 12 + 1 ∧ (w % 12 = v % 12 ∨ ag_E T (v % 12) (w % 12))
def fl_FI (T : Nat → Int32) (n : Nat) (Pl Gl us : Nat → Prop) (ff ft : Nat → Option Nat) : Prop :=
  (∀ v, us v → v < 12 * (n + 1)) ∧
  (∀ v, us v → v < 12 * n → ∃ w, ft v = some w ∧ us w ∧ ff w = some v ∧ fl_St T v w) ∧
  (∀ w, us w → 12 ≤ w → ∃ v, ff w = some v ∧ us v ∧ ft v = some w ∧ fl_St T v w) ∧
  (∀ v, us v → v < 12 → ff v = none ∧ Pl v) ∧
  (∀ v, v < 12 * (n + 1) → ¬ us v → ff v = none ∧ ft v = none) ∧
  (∀ v, us v → 12 * n ≤ v → Gl (v - 12 * n))
/-- where the search can go on: node 2 v: at which one comes to v, 2 v + 1: from which one goes on -/
def fl_RA (T : Nat → Int32) (n : Nat) (us : Nat → Prop) (ff ft : Nat → Option Nat) (x y : Nat) : Prop :=
  (∃ v, x = 2 * v ∧ ((¬ us v ∧ y = 2 * v + 1) ∨ (us v ∧ ∃ u, ff v = some u ∧ y = 2 * u + 1))) ∨
  (∃ v, x = 2 * v + 1 ∧ ((us v ∧ y = 2 * v) ∨ (v < 12 * n ∧ ∃ w, fl_St T v w ∧ ft v ≠ some w ∧ y = 2 * w)))
/-- a search that has ended without a way -/
def fl_Z (T : Nat → Int32) (n : Nat) (Pl Gl us : Nat → Prop) (ff ft : Nat → Option Nat) (Z : Nat → Prop) : Prop :=
  (∀ c, c < 12 → Pl c → ¬ us c → Z (2 * c)) ∧ (∀ x y, x < 24 * (n + 1) → Z x → fl_RA T n us ff ft x y → Z y) ∧
  (∀ v, 12 * n ≤ v → v < 12 * (n + 1) → Z (2 * v + 1) → ¬ us v → ¬ Gl (v - 12 * n))
/-- how many used copies of cells of turn t lead on -/
noncomputable def fl_al (us Z : Nat → Prop) (t : Nat) : Nat := gq_cn (fun c => us (12 * t + c) ∧ Z (2 * (12 * t + c))) 12
noncomputable def fl_be (us Z : Nat → Prop) (t : Nat) : Nat := gq_cn (fun c => us (12 * t + c) ∧ Z (2 * (12 * t + c) + 1)) 12
theorem fl_L2 {T : Nat → Int32} {n : Nat} {Pl Gl us : Nat → Prop} {ff ft : Nat → Option Nat} {Z : Nat → Prop} (hz : fl_Z T n Pl Gl us ff ft Z) {t : Nat} (ht : t ≤ n) (X : Nat → Prop) :
    gq_cn (fun c => X c ∧ Z (2 * (12 * t + c))) 12 + fl_be us Z t ≤ gq_cn (fun c => X c ∧ Z (2 * (12 * t + c) + 1)) 12 + fl_al us Z t := by
  have h1 := gq_cn_split (fun c => X c ∧ Z (2 * (12 * t + c))) (fun c => Z (2 * (12 * t + c) + 1)) 12
  have h2 := gq_cn_split (fun c => us (12 * t + c) ∧ Z (2 * (12 * t + c))) (fun c => Z (2 * (12 * t + c) + 1)) 12
  have h3 : gq_cn (fun c => (X c ∧ Z (2 * (12 * t + c))) ∧ Z (2 * (12 * t + c) + 1)) 12 ≤ gq_cn (fun c => X c ∧ Z (2 * (12 * t + c) + 1)) 12 := gq_cn_mono 12 (fun c _ h => ⟨h.1.1, h.2⟩)
  have h4 : gq_cn (fun c => (X c ∧ Z (2 * (12 * t + c))) ∧ ¬ Z (2 * (12 * t + c) + 1)) 12 ≤ gq_cn (fun c => (us (12 * t + c) ∧ Z (2 * (12 * t + c))) ∧ ¬ Z (2 * (12 * t + c) + 1)) 12 := by
    refine gq_cn_mono 12 (fun c hc h => ⟨⟨?_, h.1.2⟩, h.2⟩)
    by_cases u : us (12 * t + c)
    · exact u
    · exact absurd (hz.2.1 _ _ (by omega) h.1.2 (Or.inl ⟨_, rfl, Or.inl ⟨u, rfl⟩⟩)) h.2
  have h5 : gq_cn (fun c => us (12 * t + c) ∧ Z (2 * (12 * t + c) + 1)) 12 ≤ gq_cn (fun c => (us (12 * t + c) ∧ Z (2 * (12 * t + c))) ∧ Z (2 * (12 * t + c) + 1)) 12 :=
    gq_cn_mono 12 (fun c hc h => ⟨⟨h.1, hz.2.1 _ _ (by omega) h.2 (Or.inr ⟨_, rfl, Or.inl ⟨h.1, rfl⟩⟩)⟩, h.2⟩)
  unfold fl_be fl_al
  omega
theorem fl_12 {v t : Nat} (h : v / 12 = t) : v = 12 * t + v % 12 := by omega
theorem fl_L1 {T : Nat → Int32} {n : Nat} {Pl Gl us : Nat → Prop} {ff ft : Nat → Option Nat} {Z : Nat → Prop} (hf : fl_FI T n Pl Gl us ff ft) (hz : fl_Z T n Pl Gl us ff ft Z) {t : Nat} (ht : t < n) (X : Nat → Prop)
    (hX : ∀ c', c' < 12 → X c' → ∃ c, c < 12 ∧ Z (2 * (12 * t + c) + 1) ∧ (c' = c ∨ ag_E T c c')) :
    gq_cn X 12 + fl_al us Z (t + 1) ≤ gq_cn (fun c => X c ∧ Z (2 * (12 * (t + 1) + c))) 12 + fl_be us Z t := by
  obtain ⟨f1, f2, f3, f4, f5, f6⟩ := hf
  have h1 := gq_cn_split X (fun c => Z (2 * (12 * (t + 1) + c))) 12
  have h2 := gq_cn_split (fun c => us (12 * t + c) ∧ Z (2 * (12 * t + c) + 1)) (fun c => ∃ w, ft (12 * t + c) = some w ∧ Z (2 * w)) 12
  have h3 : gq_cn (fun c => us (12 * (t + 1) + c) ∧ Z (2 * (12 * (t + 1) + c))) 12 ≤ gq_cn (fun c => (us (12 * t + c) ∧ Z (2 * (12 * t + c) + 1)) ∧ ∃ w, ft (12 * t + c) = some w ∧ Z (2 * w)) 12 := by
    refine gq_cn_inj 12 (fun c => (match ff (12 * (t + 1) + c) with | none => 0 | some v => v) % 12) (fun c hc h => ?_) (fun c d hc hd h h' e => ?_)
    · obtain ⟨v, v1, v2, v3, v4⟩ := f3 _ h.1 (by omega)
      rw [v1]
      have ev : v = 12 * t + v % 12 := fl_12 (by have := v4.1; omega)
      refine ⟨Nat.mod_lt _ (by omega), ⟨?_, ?_⟩, ?_⟩
      · show us (12 * t + v % 12)
        rw [← ev]; exact v2
      · show Z (2 * (12 * t + v % 12) + 1)
        rw [← ev]
        exact hz.2.1 _ _ (by omega) h.2 (Or.inl ⟨_, rfl, Or.inr ⟨h.1, v, v1, rfl⟩⟩)
      · show ∃ w, ft (12 * t + v % 12) = some w ∧ Z (2 * w)
        rw [← ev]
        exact ⟨_, v3, h.2⟩
    · obtain ⟨v, v1, v2, v3, v4⟩ := f3 _ h.1 (by omega)
      obtain ⟨w, w1, w2, w3, w4⟩ := f3 _ h'.1 (by omega)
      rw [v1, w1] at e
      have e' : v % 12 = w % 12 := e
      have : v = w := by
        have := v4.1
        have := w4.1
        omega
      rw [this, w3] at v3
      have := Option.some.inj v3
      omega
  have h4 : gq_cn (fun c => X c ∧ ¬ Z (2 * (12 * (t + 1) + c))) 12 ≤ gq_cn (fun c => (us (12 * t + c) ∧ Z (2 * (12 * t + c) + 1)) ∧ ¬ ∃ w, ft (12 * t + c) = some w ∧ Z (2 * w)) 12 := by
    have hx : ∀ c', ∃ c, (c' < 12 ∧ X c' ∧ ¬ Z (2 * (12 * (t + 1) + c'))) → c < 12 ∧ Z (2 * (12 * t + c) + 1) ∧ ft (12 * t + c) = some (12 * (t + 1) + c') := by
      intro c'
      by_cases h : c' < 12 ∧ X c' ∧ ¬ Z (2 * (12 * (t + 1) + c'))
      · obtain ⟨c, c1, c2, c3⟩ := hX c' h.1 h.2.1
        refine ⟨c, fun _ => ⟨c1, c2, ?_⟩⟩
        by_cases e : ft (12 * t + c) = some (12 * (t + 1) + c')
        · exact e
        · refine absurd (hz.2.1 _ _ (by omega) c2 (Or.inr ⟨_, rfl, Or.inr ⟨by omega, 12 * (t + 1) + c', ⟨by omega, ?_⟩, e, rfl⟩⟩)) h.2.2
          rw [show (12 * (t + 1) + c') % 12 = c' by omega, show (12 * t + c) % 12 = c by omega]
          exact c3
      · exact ⟨0, fun z => absurd z h⟩
    have hF : ∃ F : Nat → Nat, ∀ c', (c' < 12 ∧ X c' ∧ ¬ Z (2 * (12 * (t + 1) + c'))) → F c' < 12 ∧ Z (2 * (12 * t + F c') + 1) ∧ ft (12 * t + F c') = some (12 * (t + 1) + c') := ⟨fun c' => Classical.choose (hx c'), fun c' h => Classical.choose_spec (hx c') h⟩
    obtain ⟨F, hF⟩ := hF
    refine gq_cn_inj 12 F (fun c hc h => ?_) (fun c d hc hd h h' e => ?_)
    · obtain ⟨g1, g2, g3⟩ := hF c ⟨hc, h⟩
      refine ⟨g1, ⟨?_, g2⟩, ?_⟩
      · by_cases u : us (12 * t + F c)
        · exact u
        · have := (f5 (12 * t + F c) (by omega) u).2
          rw [this] at g3
          exact absurd g3 (by simp)
      · rintro ⟨w, w1, w2⟩
        rw [g3] at w1
        have := Option.some.inj w1
        rw [← this] at w2
        exact h.2 w2
    · obtain ⟨_, _, g3⟩ := hF c ⟨hc, h⟩
      obtain ⟨_, _, g3'⟩ := hF d ⟨hd, h'⟩
      rw [e, g3'] at g3
      have := Option.some.inj g3
      omega
  unfold fl_be fl_al
  omega
theorem fl_L {T : Nat → Int32} {n : Nat} {Pl Gl us : Nat → Prop} {ff ft : Nat → Option Nat} {Z : Nat → Prop} (hf : fl_FI T n Pl Gl us ff ft) (hz : fl_Z T n Pl Gl us ff ft Z) {t : Nat} (ht : t < n) (X : Nat → Prop)
    (hX : ∀ c', c' < 12 → X c' → ∃ c, c < 12 ∧ Z (2 * (12 * t + c) + 1) ∧ (c' = c ∨ ag_E T c c')) :
    gq_cn X 12 + fl_be us Z (t + 1) ≤ gq_cn (fun c => X c ∧ Z (2 * (12 * (t + 1) + c) + 1)) 12 + fl_be us Z t := by
  have h1 := fl_L1 hf hz ht X hX
  have h2 := fl_L2 hz (t := t + 1) (by omega) X
  omega
/-- the places at the start -/
theorem fl_B {T : Nat → Int32} {n : Nat} {Pl Gl us : Nat → Prop} {ff ft : Nat → Option Nat} {Z : Nat → Prop} (hf : fl_FI T n Pl Gl us ff ft) (hz : fl_Z T n Pl Gl us ff ft Z) {k u : Nat} (hP : k ≤ gq_cn Pl 12) (hu : gq_cn us 12 = u) : k + fl_be us Z 0 ≤ gq_cn (fun c => Pl c ∧ Z (2 * (12 * 0 + c) + 1)) 12 + u := by
  obtain ⟨f1, f2, f3, f4, f5, f6⟩ := hf
  have h2 := fl_L2 hz (t := 0) (by omega) Pl
  have h1 := gq_cn_split (fun c => Pl c ∧ Z (2 * (12 * 0 + c))) us 12
  have h3 : fl_al us Z 0 ≤ gq_cn (fun c => (Pl c ∧ Z (2 * (12 * 0 + c))) ∧ us c) 12 := by
    refine gq_cn_mono 12 (fun c hc h => ?_)
    have h' : us (12 * 0 + c) ∧ Z (2 * (12 * 0 + c)) := h
    rw [show 12 * 0 + c = c by omega] at h' ⊢
    exact ⟨⟨(f4 c h'.1 hc).2, h'.2⟩, h'.1⟩
  have h4 := gq_cn_split Pl us 12
  have h5 : gq_cn (fun c => Pl c ∧ us c) 12 ≤ gq_cn us 12 := gq_cn_mono 12 (fun c _ h => h.2)
  have h6 : gq_cn (fun c => Pl c ∧ ¬ us c) 12 ≤ gq_cn (fun c => (Pl c ∧ Z (2 * (12 * 0 + c))) ∧ ¬ us c) 12 := by
    refine gq_cn_mono 12 (fun c hc h => ⟨⟨h.1, ?_⟩, h.2⟩)
    have := hz.1 c hc h.1 h.2
    rw [show 12 * 0 + c = c by omega]
    exact this
  omega
theorem fl_end {T : Nat → Int32} {n : Nat} {Pl Gl us : Nat → Prop} {ff ft : Nat → Option Nat} {Z : Nat → Prop} (hz : fl_Z T n Pl Gl us ff ft Z) {X : Nat → Prop} (hX : ∀ c, c < 12 → X c → Gl c) : gq_cn (fun c => X c ∧ Z (2 * (12 * n + c) + 1)) 12 ≤ fl_be us Z n := by
  refine gq_cn_mono 12 (fun c hc h => ⟨?_, h.2⟩)
  by_cases u : us (12 * n + c)
  · exact u
  · refine absurd (hX c hc h.1) ?_
    have := hz.2.2 (12 * n + c) (by omega) (by omega) h.2 u
    rw [show 12 * n + c - 12 * n = c by omega] at this
    exact this
/-- joint walks don't end in goals if the search fails -/
theorem fl_complete {T : Nat → Int32} {n : Nat} {Pl Gl us : Nat → Prop} {ff ft : Nat → Option Nat} {Z : Nat → Prop} (hf : fl_FI T n Pl Gl us ff ft) (hz : fl_Z T n Pl Gl us ff ft Z) {k u s0 b : Nat} (hP : k ≤ gq_cn Pl 12) (hPl : ∀ c, c < 12 → Pl c → ∃ i, i < k ∧ ag_ce s0 i = c) (hu : gq_cn us 12 = u) (huk : u < k) (hw : gq_wk (ag_JC T k) n s0 b) (hs : ag_dif k s0) (hG : ∀ i, i < k → Gl (ag_ce b i)) : False := by
  obtain ⟨r, r0, rn, rs⟩ := gq_seq hw
  have rd : ∀ t, t ≤ n → ag_dif k (r t) := by
    intro t ht
    cases t with
    | zero => rw [r0]; exact hs
    | succ t => exact ag_JC_dif (rs t (by omega))
  have key : ∀ t, t ≤ n → k + fl_be us Z t ≤ gq_cn (fun c => (∃ i, i < k ∧ ag_ce (r t) i = c) ∧ Z (2 * (12 * t + c) + 1)) 12 + u := by
    intro t
    induction t with
    | zero =>
      intro _
      have h1 := fl_B hf hz hP hu
      have h2 : gq_cn (fun c => Pl c ∧ Z (2 * (12 * 0 + c) + 1)) 12 ≤ gq_cn (fun c => (∃ i, i < k ∧ ag_ce (r 0) i = c) ∧ Z (2 * (12 * 0 + c) + 1)) 12 := gq_cn_mono 12 (fun c hc h => ⟨by rw [r0]; exact hPl c hc h.1, h.2⟩)
      omega
    | succ t ih =>
      intro ht
      have h1 := ih (by omega)
      have h2 := fl_L hf hz (t := t) (by omega) (fun c' => ∃ i, i < k ∧ ag_ce (r (t + 1)) i = c' ∧ Z (2 * (12 * t + ag_ce (r t) i) + 1)) (fun c' _ h => by
        obtain ⟨i, hi, e, hZ⟩ := h
        refine ⟨ag_ce (r t) i, ag_ce_lt _ _, hZ, ?_⟩
        rw [← e]
        exact (rs t (by omega)).2.1 i hi)
      have h3 : gq_cn (fun c => (∃ i, i < k ∧ ag_ce (r t) i = c) ∧ Z (2 * (12 * t + c) + 1)) 12 ≤ gq_cn (fun c' => ∃ i, i < k ∧ ag_ce (r (t + 1)) i = c' ∧ Z (2 * (12 * t + ag_ce (r t) i) + 1)) 12 := by
        have hx : ∀ c, ∃ i, (∃ i, i < k ∧ ag_ce (r t) i = c) → i < k ∧ ag_ce (r t) i = c := by
          intro c
          by_cases h : ∃ i, i < k ∧ ag_ce (r t) i = c
          · obtain ⟨i, hi⟩ := h
            exact ⟨i, fun _ => hi⟩
          · exact ⟨0, fun z => absurd z h⟩
        have hF : ∃ F : Nat → Nat, ∀ c, (∃ i, i < k ∧ ag_ce (r t) i = c) → F c < k ∧ ag_ce (r t) (F c) = c := ⟨fun c => Classical.choose (hx c), fun c h => Classical.choose_spec (hx c) h⟩
        obtain ⟨F, hF⟩ := hF
        refine gq_cn_inj 12 (fun c => ag_ce (r (t + 1)) (F c)) (fun c hc h => ⟨ag_ce_lt _ _, F c, (hF c h.1).1, rfl, by rw [(hF c h.1).2]; exact h.2⟩) (fun c d hc hd h h' e => ?_)
        have := rd (t + 1) ht
        have e' : F c = F d := by
          rcases Nat.lt_trichotomy (F c) (F d) with z | z | z
          · exact absurd e (this.2 _ _ z (hF d h'.1).1)
          · exact z
          · exact absurd e.symm (this.2 _ _ z (hF c h.1).1)
        rw [← (hF c h.1).2, ← (hF d h'.1).2, e']
      have h4 : gq_cn (fun c => (∃ i, i < k ∧ ag_ce (r (t + 1)) i = c ∧ Z (2 * (12 * t + ag_ce (r t) i) + 1)) ∧ Z (2 * (12 * (t + 1) + c) + 1)) 12 ≤ gq_cn (fun c => (∃ i, i < k ∧ ag_ce (r (t + 1)) i = c) ∧ Z (2 * (12 * (t + 1) + c) + 1)) 12 := gq_cn_mono 12 (fun c _ h => by
        obtain ⟨⟨i, hi, e, _⟩, hz'⟩ := h
        exact ⟨⟨i, hi, e⟩, hz'⟩)
      omega
  have h1 := key n (Nat.le_refl _)
  have h2 := fl_end hz (X := fun c => ∃ i, i < k ∧ ag_ce (r n) i = c) (fun c _ h => by
    obtain ⟨i, hi, e⟩ := h
    rw [← e, rn]
    exact hG i hi)
  omega
/-- with twelve turns and ways for all the search doesn't fail -/
theorem fl_grow {T : Nat → Int32} {n : Nat} {Pl Gl us : Nat → Prop} {ff ft : Nat → Option Nat} {Z : Nat → Prop} (hf : fl_FI T n Pl Gl us ff ft) (hz : fl_Z T n Pl Gl us ff ft Z) (hn : 12 ≤ n) {k u : Nat} (hP : k ≤ gq_cn Pl 12) (hu : gq_cn us 12 = u) (huk : u < k)
    {G : Nat → Nat} (hG : ∀ c, c < 12 → Pl c → G c < 12 ∧ Gl (G c) ∧ ∃ m, gq_wk (ag_E T) m c (G c)) (hi : ∀ c d, c < 12 → d < 12 → Pl c → Pl d → G c = G d → c = d) : False := by
  have b0 := fl_B hf hz hP hu
  have stay : ∀ (X : Nat → Prop) t, t < n → gq_cn (fun c => X c ∧ Z (2 * (12 * t + c) + 1)) 12 + fl_be us Z (t + 1) ≤ gq_cn (fun c => X c ∧ Z (2 * (12 * (t + 1) + c) + 1)) 12 + fl_be us Z t := by
    intro X t ht
    have h1 := fl_L hf hz ht (fun c => X c ∧ Z (2 * (12 * t + c) + 1)) (fun c hc h => ⟨c, hc, h.2, Or.inl rfl⟩)
    have h2 : gq_cn (fun c => (X c ∧ Z (2 * (12 * t + c) + 1)) ∧ Z (2 * (12 * (t + 1) + c) + 1)) 12 ≤ gq_cn (fun c => X c ∧ Z (2 * (12 * (t + 1) + c) + 1)) 12 := gq_cn_mono 12 (fun c _ h => ⟨h.1.1, h.2⟩)
    omega
  have pl : ∀ t, t ≤ n → k + fl_be us Z t ≤ gq_cn (fun c => Pl c ∧ Z (2 * (12 * t + c) + 1)) 12 + u := by
    intro t
    induction t with
    | zero => intro _; exact b0
    | succ t ih =>
      intro ht
      have h1 := ih (by omega)
      have h2 := stay Pl t (by omega)
      omega
  -- a turn from which nothing new is reached
  have cl : ∃ t, t ≤ n ∧ ∀ c c', c < 12 → Z (2 * (12 * t + c) + 1) → ag_E T c c' → Z (2 * (12 * t + c') + 1) := by
    by_cases h : ∃ t, t ≤ n ∧ ∀ c c', c < 12 → Z (2 * (12 * t + c) + 1) → ag_E T c c' → Z (2 * (12 * t + c') + 1)
    · exact h
    · exfalso
      have grow : ∀ t, t ≤ n → t + 1 + fl_be us Z t ≤ gq_cn (fun c => Z (2 * (12 * t + c) + 1)) 12 := by
        intro t
        induction t with
        | zero =>
          intro _
          have : gq_cn (fun c => Pl c ∧ Z (2 * (12 * 0 + c) + 1)) 12 ≤ gq_cn (fun c => Z (2 * (12 * 0 + c) + 1)) 12 := gq_cn_mono 12 (fun c _ h => h.2)
          omega
        | succ t ih =>
          intro ht
          have h1 := ih (by omega)
          have h2 : ∃ c c', c < 12 ∧ Z (2 * (12 * t + c) + 1) ∧ ag_E T c c' ∧ ¬ Z (2 * (12 * t + c') + 1) := by
            by_cases y : ∃ c c', c < 12 ∧ Z (2 * (12 * t + c) + 1) ∧ ag_E T c c' ∧ ¬ Z (2 * (12 * t + c') + 1)
            · exact y
            · exact absurd ⟨t, by omega, fun c c' h1 h2 h3 => by
                by_cases w : Z (2 * (12 * t + c') + 1)
                · exact w
                · exact absurd ⟨c, c', h1, h2, h3, w⟩ y⟩ h
          obtain ⟨c, c', c1, c2, c3, c4⟩ := h2
          have h3 := fl_L hf hz (t := t) (by omega) (fun d => ∃ c, c < 12 ∧ Z (2 * (12 * t + c) + 1) ∧ (d = c ∨ ag_E T c d)) (fun d _ h => h)
          have h4 : gq_cn (fun c => Z (2 * (12 * t + c) + 1)) 12 < gq_cn (fun d => ∃ c, c < 12 ∧ Z (2 * (12 * t + c) + 1) ∧ (d = c ∨ ag_E T c d)) 12 := gq_cn_lt (k := c') (fun d hd h => ⟨d, hd, h, Or.inl rfl⟩) c3.1 c4 ⟨c, c1, c2, Or.inr c3⟩
          have h5 : gq_cn (fun d => (∃ c, c < 12 ∧ Z (2 * (12 * t + c) + 1) ∧ (d = c ∨ ag_E T c d)) ∧ Z (2 * (12 * (t + 1) + d) + 1)) 12 ≤ gq_cn (fun d => Z (2 * (12 * (t + 1) + d) + 1)) 12 := gq_cn_mono 12 (fun d _ h => h.2)
          omega
      have h1 := grow 12 hn
      have h2 := gq_cn_le (p := fun c => Z (2 * (12 * 12 + c) + 1)) 12
      omega
  obtain ⟨t, ht, hc⟩ := cl
  have far : ∀ m c d, c < 12 → Z (2 * (12 * t + c) + 1) → gq_wk (ag_E T) m c d → Z (2 * (12 * t + d) + 1) := by
    intro m
    induction m with
    | zero =>
      intro c d _ h hw
      have hw' : c = d := hw
      rw [← hw']
      exact h
    | succ m ih =>
      intro c d hc' h hw
      obtain ⟨e, e1, e2⟩ := hw
      exact ih e d e1.1 (hc c e hc' h e1) e2
  have g0 : gq_cn (fun c => Pl c ∧ Z (2 * (12 * t + c) + 1)) 12 ≤ gq_cn (fun c => Gl c ∧ Z (2 * (12 * t + c) + 1)) 12 := by
    refine gq_cn_inj 12 G (fun c hc h => ?_) (fun c d hc hd h h' e => hi c d hc hd h.1 h'.1 e)
    obtain ⟨g1, g2, m, g3⟩ := hG c hc h.1
    exact ⟨g1, g2, far m c _ hc h.2 g3⟩
  have gl : ∀ d, t + d ≤ n → k + fl_be us Z (t + d) ≤ gq_cn (fun c => Gl c ∧ Z (2 * (12 * (t + d) + c) + 1)) 12 + u := by
    intro d
    induction d with
    | zero =>
      intro _
      have := pl t ht
      show k + fl_be us Z t ≤ gq_cn (fun c => Gl c ∧ Z (2 * (12 * t + c) + 1)) 12 + u
      omega
    | succ d ih =>
      intro hd
      have h1 := ih (by omega)
      have h2 := stay Gl (t + d) (by omega)
      rw [show t + (d + 1) = t + d + 1 by omega]
      omega
  have h1 := gl (n - t) (by omega)
  rw [show t + (n - t) = n by omega] at h1
  have h2 := fl_end hz (X := Gl) (fun c _ h => h)
  omega
theorem gq_cn_full {p : Nat → Prop} {n : Nat} (h : gq_cn p n = n) : ∀ i, i < n → p i := by
  intro i hi
  by_cases c : p i
  · exact c
  · have h1 := gq_cn_lt (p := p) (q := fun _ => True) (n := n) (fun _ _ _ => trivial) hi c trivial
    have h2 := gq_cn_le (p := fun _ => True) n
    omega
/-- a full flow is a joint walk into the goals -/
theorem fl_sound {T : Nat → Int32} {n : Nat} {Pl Gl us : Nat → Prop} {ff ft : Nat → Option Nat} (hf : fl_FI T n Pl Gl us ff ft) {k s0 : Nat} (hk : k ≤ 3) (hPl : ∀ c, c < 12 → Pl c → ∃ i, i < k ∧ ag_ce s0 i = c) (hu : gq_cn us 12 = k) (hs : ag_dif k s0) : ∃ b, gq_wk (ag_JC T k) n s0 b ∧ ∀ i, i < k → Gl (ag_ce b i) := by
  obtain ⟨f1, f2, f3, f4, f5, f6⟩ := hf
  have difne : ∀ {s i j}, ag_dif k s → i < k → j < k → ag_ce s i = ag_ce s j → i = j := by
    intro s i j h hi hj e
    rcases Nat.lt_trichotomy i j with z | z | z
    · exact absurd e (h.2 i j z hj)
    · exact z
    · exact absurd e.symm (h.2 j i z hi)
  have start : ∀ i, i < k → us (ag_ce s0 i) := by
    refine gq_cn_full ?_
    have hx : ∀ c, ∃ i, (c < 12 ∧ us c) → i < k ∧ ag_ce s0 i = c := by
      intro c
      by_cases h : c < 12 ∧ us c
      · obtain ⟨i, hi⟩ := hPl c h.1 (f4 c h.2 h.1).2
        exact ⟨i, fun _ => hi⟩
      · exact ⟨0, fun z => absurd z h⟩
    have hF : ∃ F : Nat → Nat, ∀ c, (c < 12 ∧ us c) → F c < k ∧ ag_ce s0 (F c) = c := ⟨fun c => Classical.choose (hx c), fun c h => Classical.choose_spec (hx c) h⟩
    obtain ⟨F, hF⟩ := hF
    have h1 : gq_cn us 12 ≤ gq_cn (fun i => us (ag_ce s0 i)) k := gq_cn_inj 12 F (fun c hc h => ⟨(hF c ⟨hc, h⟩).1, by rw [(hF c ⟨hc, h⟩).2]; exact h⟩) (fun c d hc hd h h' e => by rw [← (hF c ⟨hc, h⟩).2, ← (hF d ⟨hd, h'⟩).2, e])
    have h2 := gq_cn_le (p := fun i => us (ag_ce s0 i)) k
    omega
  have key : ∀ t, t ≤ n → ∃ r, ag_dif k r ∧ gq_wk (ag_JC T k) t s0 r ∧ ∀ i, i < k → us (12 * t + ag_ce r i) := by
    intro t
    induction t with
    | zero =>
      intro _
      refine ⟨s0, hs, rfl, fun i hi => ?_⟩
      rw [show 12 * 0 + ag_ce s0 i = ag_ce s0 i by omega]
      exact start i hi
    | succ t ih =>
      intro ht
      obtain ⟨r, r1, r2, r3⟩ := ih (by omega)
      have hx : ∀ i, ∃ y, i < k → y < 12 ∧ (y = ag_ce r i ∨ ag_E T (ag_ce r i) y) ∧ us (12 * (t + 1) + y) ∧ ff (12 * (t + 1) + y) = some (12 * t + ag_ce r i) := by
        intro i
        by_cases h : i < k
        · have l := ag_ce_lt r i
          obtain ⟨w, w1, w2, w3, w4, w5⟩ := f2 _ (r3 i h) (by omega)
          rw [show (12 * t + ag_ce r i) / 12 = t by omega] at w4
          rw [show (12 * t + ag_ce r i) % 12 = ag_ce r i by omega] at w5
          have ew := fl_12 w4
          refine ⟨w % 12, fun _ => ⟨Nat.mod_lt _ (by omega), w5, ?_, ?_⟩⟩
          · rw [← ew]; exact w2
          · rw [← ew]; exact w3
        · exact ⟨0, fun z => absurd z h⟩
      have hF : ∃ Y : Nat → Nat, ∀ i, i < k → Y i < 12 ∧ (Y i = ag_ce r i ∨ ag_E T (ag_ce r i) (Y i)) ∧ us (12 * (t + 1) + Y i) ∧ ff (12 * (t + 1) + Y i) = some (12 * t + ag_ce r i) := ⟨fun c => Classical.choose (hx c), fun c h => Classical.choose_spec (hx c) h⟩
      obtain ⟨Y, hY⟩ := hF
      have yne : ∀ i j, i < k → j < k → Y i = Y j → i = j := by
        intro i j hi hj e
        have h1 := (hY i hi).2.2.2
        rw [e, (hY j hj).2.2.2] at h1
        have := Option.some.inj h1
        exact difne r1 hi hj (by omega)
      -- whoever changes places with another stays
      have hW : ∃ W : Nat → Nat, ∀ i, i < k → ((∃ j, j < k ∧ j ≠ i ∧ Y i = ag_ce r j ∧ Y j = ag_ce r i) → W i = ag_ce r i) ∧ ((¬ ∃ j, j < k ∧ j ≠ i ∧ Y i = ag_ce r j ∧ Y j = ag_ce r i) → W i = Y i) := by
        refine ⟨fun i => @ite Nat (∃ j, j < k ∧ j ≠ i ∧ Y i = ag_ce r j ∧ Y j = ag_ce r i) (Classical.propDecidable _) (ag_ce r i) (Y i), fun i _ => ⟨fun h => ?_, fun h => ?_⟩⟩
        · exact if_pos h
        · exact if_neg h
      obtain ⟨W, hW⟩ := hW
      have wl : ∀ i, i < k → W i < 12 ∧ (W i = ag_ce r i ∨ ag_E T (ag_ce r i) (W i)) ∧ us (12 * (t + 1) + W i) := by
        intro i hi
        by_cases h : ∃ j, j < k ∧ j ≠ i ∧ Y i = ag_ce r j ∧ Y j = ag_ce r i
        · rw [(hW i hi).1 h]
          obtain ⟨j, j1, j2, j3, j4⟩ := h
          refine ⟨ag_ce_lt _ _, Or.inl rfl, ?_⟩
          rw [← j4]
          exact (hY j j1).2.2.1
        · rw [(hW i hi).2 h]
          exact ⟨(hY i hi).1, (hY i hi).2.1, (hY i hi).2.2.1⟩
      have wne : ∀ i j, i < k → j < k → i ≠ j → W i ≠ W j := by
        have half : ∀ i j, i < k → j < k → i ≠ j → (∃ a, a < k ∧ a ≠ i ∧ Y i = ag_ce r a ∧ Y a = ag_ce r i) → (¬ ∃ a, a < k ∧ a ≠ j ∧ Y j = ag_ce r a ∧ Y a = ag_ce r j) → W i ≠ W j := by
          intro i j hi hj hij h h' e
          rw [(hW i hi).1 h, (hW j hj).2 h'] at e
          obtain ⟨a, a1, a2, a3, a4⟩ := h
          rw [← a4] at e
          have := yne a j a1 hj e
          subst this
          exact h' ⟨i, hi, fun z => hij z, a4, a3⟩
        intro i j hi hj hij e
        by_cases h : ∃ a, a < k ∧ a ≠ i ∧ Y i = ag_ce r a ∧ Y a = ag_ce r i
        · by_cases h' : ∃ a, a < k ∧ a ≠ j ∧ Y j = ag_ce r a ∧ Y a = ag_ce r j
          · rw [(hW i hi).1 h, (hW j hj).1 h'] at e
            exact hij (difne r1 hi hj e)
          · exact half i j hi hj hij h h' e
        · by_cases h' : ∃ a, a < k ∧ a ≠ j ∧ Y j = ag_ce r a ∧ Y a = ag_ce r j
          · exact half j i hj hi (fun z => hij z.symm) h' h e.symm
          · rw [(hW i hi).2 h, (hW j hj).2 h'] at e
            exact hij (yne i j hi hj e)
      obtain ⟨s, s1, s2⟩ := ag_enc W k hk (fun i hi => (wl i hi).1)
      have jc : ag_JC T k r s := by
        refine ⟨s1, fun i hi => by rw [s2 i hi]; exact (wl i hi).2.1, fun i j hij hj => ?_⟩
        rw [s2 i (by omega), s2 j hj]
        refine ⟨wne i j (by omega) hj (by omega), fun h => ?_⟩
        by_cases hi' : ∃ a, a < k ∧ a ≠ i ∧ Y i = ag_ce r a ∧ Y a = ag_ce r i
        · have h1 := h.1
          rw [(hW i (by omega)).1 hi'] at h1
          have := difne r1 (by omega) hj h1
          omega
        · by_cases hj' : ∃ a, a < k ∧ a ≠ j ∧ Y j = ag_ce r a ∧ Y a = ag_ce r j
          · have h1 := h.2
            rw [(hW j hj).1 hj'] at h1
            have := difne r1 hj (by omega) h1
            omega
          · have h1 := h.1
            have h2 := h.2
            rw [(hW i (by omega)).2 hi'] at h1
            rw [(hW j hj).2 hj'] at h2
            exact hi' ⟨j, hj, by omega, h1, h2⟩
      exact ⟨s, ag_JC_dif jc, gq_snoc r2 jc, fun i hi => by rw [s2 i hi]; exact (wl i hi).2.2⟩
  obtain ⟨b, _, b2, b3⟩ := key n (Nat.le_refl _)
  refine ⟨b, b2, fun i hi => ?_⟩
  have := f6 _ (b3 i hi) (by omega)
  rw [show 12 * n + ag_ce b i - 12 * n = ag_ce b i by omega] at this
  exact this
end
section
def fl_up (f : Nat → Option Nat) (k : Nat) (x : Option Nat) : Nat → Option Nat := fun j => if j = k then x else f j
theorem fl_us {f : Nat → Option Nat} {k : Nat} {x : Option Nat} : fl_up f k x k = x := if_pos rfl
theorem fl_un {f : Nat → Option Nat} {k j : Nat} {x : Option Nat} (h : j ≠ k) : fl_up f k x j = f j := if_neg h
/-- a flow that has yet to come to w -/
def fl_In (T : Nat → Int32) (n : Nat) (Pl Gl : Nat → Prop) (w : Nat) (us : Nat → Prop) (ff ft : Nat → Option Nat) : Prop :=
  us w ∧ (∀ v, us v → v < 12 * (n + 1)) ∧
  (∀ v, us v → v < 12 * n → ∃ y, ft v = some y ∧ us y ∧ ff y = some v ∧ y ≠ w ∧ fl_St T v y) ∧
  (∀ y, us y → 12 ≤ y → y ≠ w → ∃ v, ff y = some v ∧ us v ∧ ft v = some y ∧ fl_St T v y) ∧
  (∀ v, us v → v < 12 → v ≠ w → ff v = none ∧ Pl v) ∧
  (∀ v, v < 12 * (n + 1) → ¬ us v → ff v = none ∧ ft v = none) ∧
  (∀ v, us v → 12 * n ≤ v → Gl (v - 12 * n))
theorem fl_in0 {T : Nat → Int32} {n : Nat} {Pl Gl us : Nat → Prop} {ff ft : Nat → Option Nat} (hf : fl_FI T n Pl Gl us ff ft) {g : Nat} (g1 : 12 * n ≤ g) (g2 : g < 12 * (n + 1)) (g3 : ¬ us g) (g4 : Gl (g - 12 * n)) : fl_In T n Pl Gl g (fun v => v = g ∨ us v) ff ft := by
  obtain ⟨f1, f2, f3, f4, f5, f6⟩ := hf
  refine ⟨Or.inl rfl, fun v h => ?_, fun v h hv => ?_, fun y h hy hn => ?_, fun v h hv hn => ?_, fun v hv h => ?_, fun v h hv => ?_⟩
  · rcases h with z | z
    · omega
    · exact f1 v z
  · rcases h with z | z
    · omega
    · obtain ⟨w, w1, w2, w3, w4⟩ := f2 v z hv
      exact ⟨w, w1, Or.inr w2, w3, fun e => g3 (by rw [← e]; exact w2), w4⟩
  · have h := h.resolve_left hn
    obtain ⟨v, v1, v2, v3, v4⟩ := f3 y h hy
    exact ⟨v, v1, Or.inr v2, v3, v4⟩
  · exact f4 v (h.resolve_left hn) hv
  · exact f5 v hv (fun z => h (Or.inr z))
  · rcases h with z | z
    · rw [z]; exact g4
    · exact f6 v z hv
theorem fl_St_lt {T : Nat → Int32} {v w : Nat} (h : fl_St T v w) : v < w ∧ 12 ≤ w ∧ v ≠ w := by
  have := h.1
  omega
theorem fl_c1 {T : Nat → Int32} {n : Nat} {Pl Gl us : Nat → Prop} {ff ft : Nat → Option Nat} {w u : Nat} (h : fl_In T n Pl Gl w us ff ft) (hu : ¬ us u) (un : u < 12 * n) (hs : fl_St T u w) : fl_In T n Pl Gl u (fun v => v = u ∨ us v) (fl_up ff w (some u)) (fl_up ft u (some w)) := by
  obtain ⟨f0, f1, f2, f3, f4, f5, f6⟩ := h
  obtain ⟨l1, l2, l3⟩ := fl_St_lt hs
  have nu : ∀ v, us v → v ≠ u := fun v hv e => hu (by rw [← e]; exact hv)
  refine ⟨Or.inl rfl, fun v h => ?_, fun v h hv => ?_, fun y h hy hn => ?_, fun v h hv hn => ?_, fun v hv h => ?_, fun v h hv => ?_⟩
  · rcases h with z | z
    · omega
    · exact f1 v z
  · rcases h with z | z
    · rw [z]
      exact ⟨w, fl_us, Or.inr f0, fl_us, fun e => l3 e.symm, hs⟩
    · obtain ⟨y, y1, y2, y3, y4, y5⟩ := f2 v z hv
      exact ⟨y, (fl_un (nu v z)).trans y1, Or.inr y2, (fl_un y4).trans y3, nu y y2, y5⟩
  · have h := h.resolve_left hn
    by_cases e : y = w
    · rw [e]
      exact ⟨u, fl_us, Or.inl rfl, fl_us, hs⟩
    · obtain ⟨v, v1, v2, v3, v4⟩ := f3 y h hy e
      exact ⟨v, (fl_un e).trans v1, Or.inr v2, (fl_un (nu v v2)).trans v3, v4⟩
  · have h := h.resolve_left hn
    have e : v ≠ w := by omega
    exact ⟨(fl_un e).trans (f4 v h hv e).1, (f4 v h hv e).2⟩
  · have h1 : ¬ us v := fun z => h (Or.inr z)
    have h2 : v ≠ u := fun z => h (Or.inl z)
    have h3 : v ≠ w := fun z => h1 (by rw [z]; exact f0)
    exact ⟨(fl_un h3).trans (f5 v hv h1).1, (fl_un h2).trans (f5 v hv h1).2⟩
  · rcases h with z | z
    · omega
    · exact f6 v z hv
theorem fl_c2 {T : Nat → Int32} {n : Nat} {Pl Gl us : Nat → Prop} {ff ft : Nat → Option Nat} {w u y : Nat} (h : fl_In T n Pl Gl w us ff ft) (hu : us u) (hy : us y) (hyw : y ≠ w) (hf : ff y = some u) (hs : fl_St T u w) : 12 ≤ y ∧ fl_In T n Pl Gl y us (fl_up ff w (some u)) (fl_up ft u (some w)) := by
  obtain ⟨f0, f1, f2, f3, f4, f5, f6⟩ := h
  obtain ⟨l1, l2, l3⟩ := fl_St_lt hs
  have y12 : 12 ≤ y := by
    rcases Nat.lt_or_ge y 12 with z | z
    · have := (f4 y hy z hyw).1
      rw [hf] at this
      exact absurd this (by simp)
    · exact z
  have ftu : ft u = some y := by
    obtain ⟨v, v1, v2, v3, v4⟩ := f3 y hy y12 hyw
    rw [hf] at v1
    rw [Option.some.inj v1]
    exact v3
  refine ⟨y12, hy, f1, fun v h hv => ?_, fun z h hz hn => ?_, fun v h hv hn => ?_, fun v hv h => ?_, f6⟩
  · by_cases e : v = u
    · rw [e]
      exact ⟨w, fl_us, f0, fl_us, fun z => hyw z.symm, hs⟩
    · obtain ⟨y', y1, y2, y3, y4, y5⟩ := f2 v h hv
      refine ⟨y', (fl_un e).trans y1, y2, (fl_un y4).trans y3, fun z => ?_, y5⟩
      rw [z, hf] at y3
      exact e (Option.some.inj y3).symm
  · by_cases e : z = w
    · rw [e]
      exact ⟨u, fl_us, hu, fl_us, hs⟩
    · obtain ⟨v, v1, v2, v3, v4⟩ := f3 z h hz e
      refine ⟨v, (fl_un e).trans v1, v2, (fl_un (fun y' => ?_)).trans v3, v4⟩
      rw [y', ftu] at v3
      exact hn (Option.some.inj v3).symm
  · have e : v ≠ w := by omega
    exact ⟨(fl_un e).trans (f4 v h hv e).1, (f4 v h hv e).2⟩
  · have h2 : v ≠ u := fun z => h (by rw [z]; exact hu)
    have h3 : v ≠ w := fun z => h (by rw [z]; exact f0)
    exact ⟨(fl_un h3).trans (f5 v hv h).1, (fl_un h2).trans (f5 v hv h).2⟩
theorem fl_c3 {T : Nat → Int32} {n : Nat} {Pl Gl us : Nat → Prop} {ff ft : Nat → Option Nat} {w y : Nat} (h : fl_In T n Pl Gl w us ff ft) (hy : us y) (hyw : y ≠ w) (hf : ff y = some w) : 12 ≤ y ∧ fl_In T n Pl Gl y (fun v => us v ∧ v ≠ w) (fl_up ff w none) (fl_up ft w none) := by
  obtain ⟨f0, f1, f2, f3, f4, f5, f6⟩ := h
  have y12 : 12 ≤ y := by
    rcases Nat.lt_or_ge y 12 with z | z
    · have := (f4 y hy z hyw).1
      rw [hf] at this
      exact absurd this (by simp)
    · exact z
  have ftw : ft w = some y := by
    obtain ⟨v, v1, v2, v3, v4⟩ := f3 y hy y12 hyw
    rw [hf] at v1
    rw [Option.some.inj v1]
    exact v3
  refine ⟨y12, ⟨hy, hyw⟩, fun v h => f1 v h.1, fun v h hv => ?_, fun z h hz hn => ?_, fun v h hv hn => ?_, fun v hv h => ?_, fun v h => f6 v h.1⟩
  · obtain ⟨y', y1, y2, y3, y4, y5⟩ := f2 v h.1 hv
    refine ⟨y', (fl_un h.2).trans y1, ⟨y2, y4⟩, (fl_un y4).trans y3, fun z => ?_, y5⟩
    rw [z, hf] at y3
    exact h.2 (Option.some.inj y3).symm
  · obtain ⟨v, v1, v2, v3, v4⟩ := f3 z h.1 hz h.2
    have e : v ≠ w := fun y' => by
      rw [y', ftw] at v3
      exact hn (Option.some.inj v3).symm
    exact ⟨v, (fl_un h.2).trans v1, ⟨v2, e⟩, (fl_un e).trans v3, v4⟩
  · exact ⟨(fl_un h.2).trans (f4 v h.1 hv h.2).1, (f4 v h.1 hv h.2).2⟩
  · by_cases e : v = w
    · rw [e]; exact ⟨fl_us, fl_us⟩
    · have h1 : ¬ us v := fun z => h ⟨z, e⟩
      exact ⟨(fl_un e).trans (f5 v hv h1).1, (fl_un e).trans (f5 v hv h1).2⟩
theorem fl_fin {T : Nat → Int32} {n : Nat} {Pl Gl us : Nat → Prop} {ff ft : Nat → Option Nat} {w : Nat} (h : fl_In T n Pl Gl w us ff ft) (hw : w < 12) (hn : ff w = none) (hP : Pl w) : fl_FI T n Pl Gl us ff ft := by
  obtain ⟨f0, f1, f2, f3, f4, f5, f6⟩ := h
  refine ⟨f1, fun v h hv => ?_, fun y h hy => f3 y h hy (by omega), fun v h hv => ?_, f5, f6⟩
  · obtain ⟨y, y1, y2, y3, _, y5⟩ := f2 v h hv
    exact ⟨y, y1, y2, y3, y5⟩
  · by_cases e : v = w
    · rw [e]; exact ⟨hn, hP⟩
    · exact f4 v h hv e
/-- leading a way back along the line L of m nodes, at its i-th node 2 w -/
def fl_LI (T : Nat → Int32) (n : Nat) (Pl Gl us0 : Nat → Prop) (ff0 ft0 : Nat → Option Nat) (L : Nat → Nat) (m i w : Nat) (us : Nat → Prop) (ff ft : Nat → Option Nat) : Prop :=
  fl_In T n Pl Gl w us ff ft ∧
  (∀ v, (∀ j, i ≤ j → j < m → L j ≠ 2 * v + 1) → ft v = ft0 v) ∧
  (∀ v, (∀ j, i < j → j < m → L j ≠ 2 * v) → ff v = ff0 v) ∧
  (∀ v, ((∀ j, i ≤ j → j < m → L j ≠ 2 * v) ∨ (∀ j, i ≤ j → j < m → L j ≠ 2 * v + 1)) → (us v ↔ us0 v)) ∧
  (w < 12 → ¬ us0 w) ∧ (∀ v, v < 12 → v ≠ w → (us v ↔ us0 v))
theorem fl_LI0 {T : Nat → Int32} {n : Nat} {Pl Gl us : Nat → Prop} {ff ft : Nat → Option Nat} (hf : fl_FI T n Pl Gl us ff ft) {L : Nat → Nat} {m i j g : Nat} (hi : i < m) (hj : j < i) (hL : L i = 2 * g + 1) (hLj : L j = 2 * g) (g1 : 12 * n ≤ g) (g2 : g < 12 * (n + 1)) (g3 : ¬ us g) (g4 : Gl (g - 12 * n)) :
    fl_LI T n Pl Gl us ff ft L m j g (fun v => v = g ∨ us v) ff ft := by
  refine ⟨fl_in0 hf g1 g2 g3 g4, fun _ _ => rfl, fun _ _ => rfl, fun v h => ⟨fun z => z.resolve_left (fun e => ?_), Or.inr⟩, fun _ => g3, fun v _ hn => ⟨fun z => z.resolve_left hn, Or.inr⟩⟩
  subst e
  rcases h with h | h
  · exact h j (Nat.le_refl _) (by omega) hLj
  · exact h i (by omega) hi hL
theorem fl_root {T : Nat → Int32} {n : Nat} {Pl Gl us0 : Nat → Prop} {ff0 ft0 : Nat → Option Nat} {L : Nat → Nat} {m i w : Nat} {us : Nat → Prop} {ff ft : Nat → Option Nat} (hf : fl_FI T n Pl Gl us0 ff0 ft0) (inj : ∀ a b, a < m → b < m → L a = L b → a = b) (h : fl_LI T n Pl Gl us0 ff0 ft0 L m i w us ff ft) (hi : i < m) (hL : L i = 2 * w) (hw : w < 12) (hP : Pl w) (hu : ¬ us0 w) :
    fl_FI T n Pl Gl us ff ft ∧ gq_cn us 12 = gq_cn us0 12 + 1 := by
  obtain ⟨h1, h2, h3, h4, h5, h6⟩ := h
  have hn : ff w = none := by
    rw [h3 w (fun j hj hj2 e => absurd (inj j i hj2 hi (by rw [e, hL])) (by omega))]
    exact (hf.2.2.2.2.1 w (by omega) hu).1
  refine ⟨fl_fin h1 hw hn hP, ?_⟩
  rw [gq_cn_sub hw h1.1]
  have : gq_cn (fun v => us v ∧ v ≠ w) 12 = gq_cn us0 12 := gq_cn_congr 12 (fun v hv => ⟨fun z => (h6 v hv z.2).mp z.1, fun z => by
    have : v ≠ w := fun e => hu (by rw [← e]; exact z)
    exact ⟨(h6 v hv this).mpr z, this⟩⟩)
  omega
/-- two steps of leading a way back -/
theorem fl_step {T : Nat → Int32} {n : Nat} {Pl Gl us0 : Nat → Prop} {ff0 ft0 : Nat → Option Nat} {L : Nat → Nat} {m i w : Nat} {us : Nat → Prop} {ff ft : Nat → Option Nat} (hf : fl_FI T n Pl Gl us0 ff0 ft0) (inj : ∀ a b, a < m → b < m → L a = L b → a = b) (h : fl_LI T n Pl Gl us0 ff0 ft0 L m i w us ff ft) (hi : i < m) (hL : L i = 2 * w)
    {j j2 : Nat} (hj : j < i) (hj2 : j2 < j) (r1 : fl_RA T n us0 ff0 ft0 (L j) (L i)) (r2 : fl_RA T n us0 ff0 ft0 (L j2) (L j)) :
    ∃ u y, L j = 2 * u + 1 ∧ L j2 = 2 * y ∧ u < 12 * (n + 1) ∧ y < 12 * (n + 1) ∧
      ((u = w ∧ y ≠ u ∧ fl_LI T n Pl Gl us0 ff0 ft0 L m j2 y (fun v => us v ∧ v ≠ w) (fl_up ff w none) (fl_up ft w none)) ∨
       (u ≠ w ∧ y = u ∧ fl_LI T n Pl Gl us0 ff0 ft0 L m j2 y (fun v => v = u ∨ us v) (fl_up ff w (some u)) (fl_up ft u (some w))) ∨
       (u ≠ w ∧ y ≠ u ∧ fl_LI T n Pl Gl us0 ff0 ft0 L m j2 y us (fl_up ff w (some u)) (fl_up ft u (some w)))) := by
  obtain ⟨h1, h2, h3, h4, h5, h6⟩ := h
  have wl := h1.2.1 w h1.1
  -- the node before is odd
  rcases r1 with ⟨v, _, e⟩ | ⟨u, eu, r1⟩
  · exfalso
    rcases e with ⟨_, e⟩ | ⟨_, x, _, e⟩
    · omega
    · omega
  -- the one before it is even
  rcases r2 with ⟨y, ey, r2⟩ | ⟨v, _, e⟩
  rotate_left
  · exfalso
    rcases e with ⟨_, e⟩ | ⟨_, x, _, _, e⟩
    · omega
    · omega
  have new : ∀ a, a < i → ∀ b, i ≤ b → b < m → L b ≠ L a := fun a ha b hb hb2 e => absurd (inj b a hb2 (by omega) e) (by omega)
  have newu : ∀ b, i ≤ b → b < m → L b ≠ 2 * u + 1 := by rw [← eu]; exact new j hj
  have newy : ∀ b, i ≤ b → b < m → L b ≠ 2 * y := by rw [← ey]; exact new j2 (by omega)
  have usu : us u ↔ us0 u := h4 u (Or.inr newu)
  have usy : us y ↔ us0 y := h4 y (Or.inl newy)
  have ywn : y ≠ w := fun e => newy i (Nat.le_refl _) hi (by rw [hL, e])
  have ffy : ff y = ff0 y := h3 y (fun b hb hb2 => newy b (by omega) hb2)
  -- what was not touched by i is what is not touched by j2
  have ku : ∀ v, (∀ b, j2 ≤ b → b < m → L b ≠ 2 * v + 1) → v ≠ u := fun v hv e => hv j (by omega) (by omega) (by rw [eu, e])
  have kw : ∀ v, (∀ b, j2 < b → b < m → L b ≠ 2 * v) → v ≠ w := fun v hv e => hv i (by omega) hi (by rw [hL, e])
  rcases r1 with ⟨x1, x2⟩ | ⟨x1, w', x2, x3, x4⟩
  · -- back through w
    have ew : u = w := by omega
    subst ew
    rcases r2 with ⟨z1, z2⟩ | ⟨z1, u', z2, z3⟩
    · exact absurd (show y = u by omega) ywn
    · have e' : u' = u := by omega
      subst e'
      have yu := usy.mpr z1
      obtain ⟨y12, c3⟩ := fl_c3 h1 yu ywn (ffy.trans z2)
      have w12 : ¬ u' < 12 := fun z => h5 z x1
      refine ⟨u', y, eu, ey, wl, h1.2.1 y yu, Or.inl ⟨rfl, ywn, c3, fun v hv => ?_, fun v hv => ?_, fun v hv => ?_, fun z => absurd z (by omega), fun v hv hn => ?_⟩⟩
      · exact (fl_un (ku v hv)).trans (h2 v (fun b hb hb2 => hv b (by omega) hb2))
      · exact (fl_un (kw v hv)).trans (h3 v (fun b hb hb2 => hv b (by omega) hb2))
      · have nv : v ≠ u' := by
          rcases hv with hv | hv
          · exact kw v (fun b hb hb2 => hv b (by omega) hb2)
          · exact ku v hv
        have := h4 v (hv.imp (fun hv b hb hb2 => hv b (by omega) hb2) (fun hv b hb hb2 => hv b (by omega) hb2))
        exact ⟨fun z => this.mp z.1, fun z => ⟨this.mpr z, nv⟩⟩
      · have nv : v ≠ u' := by omega
        have := h6 v hv nv
        exact ⟨fun z => this.mp z.1, fun z => ⟨this.mpr z, nv⟩⟩
  · -- forward from u to w
    have ew : w' = w := by omega
    subst ew
    obtain ⟨l1, l2, l3⟩ := fl_St_lt x2
    have a1 : ∀ v, (∀ b, j2 ≤ b → b < m → L b ≠ 2 * v + 1) → fl_up ft u (some w') v = ft0 v := fun v hv => (fl_un (ku v hv)).trans (h2 v (fun b hb hb2 => hv b (by omega) hb2))
    have a2 : ∀ v, (∀ b, j2 < b → b < m → L b ≠ 2 * v) → fl_up ff w' (some u) v = ff0 v := fun v hv => (fl_un (kw v hv)).trans (h3 v (fun b hb hb2 => hv b (by omega) hb2))
    rcases r2 with ⟨z1, z2⟩ | ⟨z1, u', z2, z3⟩
    · have e' : y = u := by omega
      subst e'
      have c1 := fl_c1 h1 (fun z => z1 (usy.mp z)) x1 x2
      refine ⟨y, y, eu, ey, by omega, by omega, Or.inr (Or.inl ⟨l3, rfl, c1, a1, a2, fun v hv => ?_, fun _ => z1, fun v hv hn => ?_⟩)⟩
      · have nv : v ≠ y := by
          rcases hv with hv | hv
          · exact fun e => hv j2 (Nat.le_refl _) (by omega) (by rw [ey, e])
          · exact ku v hv
        have := h4 v (hv.imp (fun hv b hb hb2 => hv b (by omega) hb2) (fun hv b hb hb2 => hv b (by omega) hb2))
        exact ⟨fun z => this.mp (z.resolve_left nv), fun z => Or.inr (this.mpr z)⟩
      · have := h6 v hv (by omega)
        exact ⟨fun z => this.mp (z.resolve_left hn), fun z => Or.inr (this.mpr z)⟩
    · have e' : u' = u := by omega
      subst e'
      have yu := usy.mpr z1
      have y12' : 12 ≤ y := by
        rcases Nat.lt_or_ge y 12 with c | c
        · have := (hf.2.2.2.1 y z1 c).1
          rw [z2] at this
          exact absurd this (by simp)
        · exact c
      have uu : us u' := by
        obtain ⟨v, v1, v2, _⟩ := hf.2.2.1 y z1 y12'
        rw [z2] at v1
        rw [← Option.some.inj v1] at v2
        exact usu.mpr v2
      have yne : y ≠ u' := by
        obtain ⟨v, v1, _, _, v4⟩ := hf.2.2.1 y z1 y12'
        rw [z2] at v1
        rw [← Option.some.inj v1] at v4
        exact fun e => (fl_St_lt v4).2.2 e.symm
      obtain ⟨y12, c2⟩ := fl_c2 h1 uu yu ywn (ffy.trans z2) x2
      refine ⟨u', y, eu, ey, by omega, h1.2.1 y yu, Or.inr (Or.inr ⟨l3, yne, c2, a1, a2, fun v hv => ?_, fun z => absurd z (by omega), fun v hv hn => ?_⟩)⟩
      · exact h4 v (hv.imp (fun hv b hb hb2 => hv b (by omega) hb2) (fun hv b hb hb2 => hv b (by omega) hb2))
      · exact h6 v hv (by omega)
end
section
/-- the arrays of the flow -/
def fl_r17 (n : Nat) (a : Nat → Int32) (us : Nat → Prop) : Prop := ∀ v, v < 12 * (n + 1) → (us v → a v = 1) ∧ (¬ us v → a v = 0)
def fl_ro (n : Nat) (a : Nat → Int32) (f : Nat → Option Nat) : Prop := ∀ v, v < 12 * (n + 1) → a v = ag_oI (f v)
theorem fl_ro_u {n : Nat} {a : Nat → Int32} {f : Nat → Option Nat} (h : fl_ro n a f) (k : Nat) (x : Option Nat) : fl_ro n (upd a k (ag_oI x)) (fl_up f k x) := by
  intro v hv
  by_cases e : v = k
  · rw [e, pk_us, fl_us]
  · rw [pk_un e, fl_un e]
    exact h v hv
theorem fl_half {v b : Nat} (hb : b < 2) (h : v < 1000) : nI (2 * v + b) / 2 = nI v := by
  have := pk_div (a := 2 * v + b) (d := 2) (by omega) (by omega) (by omega)
  rw [show (2 * v + b) / 2 = v by omega] at this
  exact this
theorem fl_par {v b : Nat} (hb : b < 2) (h : v < 1000) : nI (2 * v + b) - nI (2 * v + b) / 2 * 2 = nI b := by
  have := pk_rem (a := 2 * v + b) (d := 2) (by omega) (by omega) (by omega)
  rw [show (2 * v + b) % 2 = b by omega] at this
  exact this
theorem fl_nar0 : vp_nar .boolean 0 = 0 := rfl
theorem fl_nar1 : vp_nar .boolean 1 = 1 := rfl
section
variable {wl pd ct ef be pf ps tn : Int32} {a1 a2 a3 a4 a5 a6 a7 a8 a9 a10 a11 a12 a13 a14 a15 a16 a17 a18 a19 a20 a21 : Nat → Int32}
theorem fl_ee {post : St1 → Prop} {f w c : Nat} (hw : w < 324) (hc : c < 648) (h20 : a20 (2 * w) = nI (2 * w + 1)) (H : wX_lead_4 post f (nI (2 * w + 1)) (nI (c + 1)) wl pd ct ef be pf ps tn a1 a2 a3 a4 a5 a6 a7 a8 a9 a10 a11 a12 a13 a14 a15 a16 (upd a17 w 0) (upd a18 w (-1)) (upd a19 w (-1)) a20 a21) : wX_lead_4 post (f + 1) (nI (2 * w + 0)) (nI c) wl pd ct ef be pf ps tn a1 a2 a3 a4 a5 a6 a7 a8 a9 a10 a11 a12 a13 a14 a15 a16 a17 a18 a19 a20 a21 := by
  have e20 : a20 (nI (2 * w + 0)).toNatClampNeg = nI (2 * w + 1) := by rw [nI_clamp (by omega)]; exact h20
  refine pk_le 648 c (fun z => absurd z (by omega)) (fun _ => ⟨pk_in (2 * w + 0) 648 (by omega), ?_⟩)
  refine pk_eq (2 * w + 1) (2 * w + 0) (fun z => absurd z (by omega)) (fun _ => ⟨pk_in (2 * w + 0) 648 (by omega), nm_r e20 ⟨by decide, nm_r (fl_half (by omega) (by omega)) ⟨by decide, nm_r (fl_half (by omega) (by omega)) ?_⟩⟩⟩) e20 rfl (by omega) (by omega)
  refine br_t rfl ⟨by decide, br_f ?_ ?_⟩
  · rw [fl_par (by omega) (by omega)]
    decide
  · refine ⟨pk_in w 324 hw, nm_r (e' := upd a17 w 0) (by rw [nI_clamp (by omega), fl_nar0]) ?_⟩
    refine ⟨pk_in w 324 hw, br_t ?_ ⟨pk_in w 324 hw, nm_r (e' := upd a18 w (-1)) (by rw [nI_clamp (by omega)]) ⟨pk_in w 324 hw, nm_r (e' := upd a19 w (-1)) (by rw [nI_clamp (by omega)]) (nm_r (nI_1 c) H)⟩⟩⟩
    rw [nI_clamp (by omega)]
    exact pk_us
theorem fl_en {post : St1 → Prop} {f w u c : Nat} (hw : w < 324) (hu : u < 324) (hn : u ≠ w) (hc : c < 648) (h20 : a20 (2 * w) = nI (2 * u + 1)) (H : wX_lead_4 post f (nI (2 * u + 1)) (nI (c + 1)) wl pd ct ef be pf ps tn a1 a2 a3 a4 a5 a6 a7 a8 a9 a10 a11 a12 a13 a14 a15 a16 a17 (upd a18 w (nI u)) (upd a19 u (nI w)) a20 a21) : wX_lead_4 post (f + 1) (nI (2 * w + 0)) (nI c) wl pd ct ef be pf ps tn a1 a2 a3 a4 a5 a6 a7 a8 a9 a10 a11 a12 a13 a14 a15 a16 a17 a18 a19 a20 a21 := by
  have e20 : a20 (nI (2 * w + 0)).toNatClampNeg = nI (2 * u + 1) := by rw [nI_clamp (by omega)]; exact h20
  refine pk_le 648 c (fun z => absurd z (by omega)) (fun _ => ⟨pk_in (2 * w + 0) 648 (by omega), ?_⟩)
  refine pk_eq (2 * u + 1) (2 * w + 0) (fun z => absurd z (by omega)) (fun _ => ⟨pk_in (2 * w + 0) 648 (by omega), nm_r e20 ⟨by decide, nm_r (fl_half (by omega) (by omega)) ⟨by decide, nm_r (fl_half (by omega) (by omega)) ?_⟩⟩⟩) e20 rfl (by omega) (by omega)
  refine pk_eq w u (fun z => absurd z.symm hn) (fun _ => ⟨by decide, br_t (fl_par (by omega) (by omega)) ?_⟩)
  refine ⟨pk_in u 324 hu, nm_r (e' := upd a19 u (nI w)) (by rw [nI_clamp (by omega)]) ⟨pk_in w 324 hw, nm_r (e' := upd a18 w (nI u)) (by rw [nI_clamp (by omega)]) (nm_r (nI_1 c) H)⟩⟩
theorem fl_oe {post : St1 → Prop} {f u c : Nat} (hu : u < 324) (hc : c < 648) (h20 : a20 (2 * u + 1) = nI (2 * u + 0)) (H : wX_lead_4 post f (nI (2 * u + 0)) (nI (c + 1)) wl pd ct ef be pf ps tn a1 a2 a3 a4 a5 a6 a7 a8 a9 a10 a11 a12 a13 a14 a15 a16 (upd a17 u 1) a18 a19 a20 a21) : wX_lead_4 post (f + 1) (nI (2 * u + 1)) (nI c) wl pd ct ef be pf ps tn a1 a2 a3 a4 a5 a6 a7 a8 a9 a10 a11 a12 a13 a14 a15 a16 a17 a18 a19 a20 a21 := by
  have e20 : a20 (nI (2 * u + 1)).toNatClampNeg = nI (2 * u + 0) := by rw [nI_clamp (by omega)]; exact h20
  refine pk_le 648 c (fun z => absurd z (by omega)) (fun _ => ⟨pk_in (2 * u + 1) 648 (by omega), ?_⟩)
  refine pk_eq (2 * u + 0) (2 * u + 1) (fun z => absurd z (by omega)) (fun _ => ⟨pk_in (2 * u + 1) 648 (by omega), nm_r e20 ⟨by decide, nm_r (fl_half (by omega) (by omega)) ⟨by decide, nm_r (fl_half (by omega) (by omega)) ?_⟩⟩⟩) e20 rfl (by omega) (by omega)
  refine br_t rfl ⟨by decide, br_t (fl_par (by omega) (by omega)) ?_⟩
  refine ⟨pk_in u 324 hu, nm_r (e' := upd a17 u 1) (by rw [nI_clamp (by omega), fl_nar1]) ?_⟩
  refine ⟨pk_in u 324 hu, br_f ?_ (nm_r (nI_1 c) H)⟩
  rw [nI_clamp (by omega), pk_us]
  decide
theorem fl_on {post : St1 → Prop} {f u y c : Nat} (hu : u < 324) (hy : y < 324) (hn : y ≠ u) (hc : c < 648) (h20 : a20 (2 * u + 1) = nI (2 * y + 0)) (H : wX_lead_4 post f (nI (2 * y + 0)) (nI (c + 1)) wl pd ct ef be pf ps tn a1 a2 a3 a4 a5 a6 a7 a8 a9 a10 a11 a12 a13 a14 a15 a16 a17 a18 a19 a20 a21) : wX_lead_4 post (f + 1) (nI (2 * u + 1)) (nI c) wl pd ct ef be pf ps tn a1 a2 a3 a4 a5 a6 a7 a8 a9 a10 a11 a12 a13 a14 a15 a16 a17 a18 a19 a20 a21 := by
  have e20 : a20 (nI (2 * u + 1)).toNatClampNeg = nI (2 * y + 0) := by rw [nI_clamp (by omega)]; exact h20
  refine pk_le 648 c (fun z => absurd z (by omega)) (fun _ => ⟨pk_in (2 * u + 1) 648 (by omega), ?_⟩)
  refine pk_eq (2 * y + 0) (2 * u + 1) (fun z => absurd z (by omega)) (fun _ => ⟨pk_in (2 * u + 1) 648 (by omega), nm_r e20 ⟨by decide, nm_r (fl_half (by omega) (by omega)) ⟨by decide, nm_r (fl_half (by omega) (by omega)) ?_⟩⟩⟩) e20 rfl (by omega) (by omega)
  refine pk_eq u y (fun z => absurd z.symm hn) (fun _ => ⟨by decide, br_f ?_ (nm_r (nI_1 c) H)⟩)
  rw [fl_par (by omega) (by omega)]
  decide
/-- the nodes found: L their line, b20 by which each came -/
def fl_SI (T : Nat → Int32) (n : Nat) (Pl us : Nat → Prop) (ff ft : Nat → Option Nat) (m : Nat) (L : Nat → Nat) (b20 b21 : Nat → Int32) : Prop :=
  (∀ i, i < m → L i < 24 * (n + 1)) ∧ (∀ i j, i < m → j < m → L i = L j → i = j) ∧ (∀ i, i < m → b21 i = nI (L i)) ∧
  (∀ x, x < 24 * (n + 1) → (¬ ∃ i, i < m ∧ L i = x) → b20 x = -1) ∧
  (∀ i, i < m → (b20 (L i) = nI (L i) ∧ ∃ c, c < 12 ∧ L i = 2 * c ∧ Pl c ∧ ¬ us c) ∨ (∃ j, j < i ∧ b20 (L i) = nI (L j) ∧ fl_RA T n us ff ft (L j) (L i)))
theorem ag_lead4 {post : St1 → Prop} {T : Nat → Int32} {n : Nat} (hn : n ≤ 26) {Pl Gl us0 : Nat → Prop} {ff0 ft0 : Nat → Option Nat} (hf : fl_FI T n Pl Gl us0 ff0 ft0) {m : Nat} {L : Nat → Nat} {b21 : Nat → Int32} (si : fl_SI T n Pl us0 ff0 ft0 m L a20 b21)
    (H : ∀ b17 b18 b19 us ff ft, fl_FI T n Pl Gl us ff ft → gq_cn us 12 = gq_cn us0 12 + 1 → fl_r17 n b17 us → fl_ro n b18 ff → fl_ro n b19 ft → post (wl, pd, ct, ef, be, pf, ps, tn, a1, a2, a3, a4, a5, a6, a7, a8, a9, a10, a11, a12, a13, a14, a15, a16, b17, b18, b19, a20, a21)) :
    ∀ i, ∀ w c b17 b18 b19 us ff ft, i < m → L i = 2 * w → c + i < 648 → fl_LI T n Pl Gl us0 ff0 ft0 L m i w us ff ft → fl_r17 n b17 us → fl_ro n b18 ff → fl_ro n b19 ft → ∃ f, wX_lead_4 post f (nI (2 * w + 0)) (nI c) wl pd ct ef be pf ps tn a1 a2 a3 a4 a5 a6 a7 a8 a9 a10 a11 a12 a13 a14 a15 a16 b17 b18 b19 a20 a21 := by
  obtain ⟨s1, s2, s3, s4, s5⟩ := si
  intro i
  induction i using Nat.strongRecOn with
  | ind i ih =>
    intro w c b17 b18 b19 us ff ft hi hL hc li r17 r18 r19
    have wl := li.1.2.1 w li.1.1
    rcases s5 i hi with ⟨z1, cc, z2, z3, z4, z5⟩ | ⟨j, hj, z1, z2⟩
    · have e : cc = w := by omega
      subst e
      obtain ⟨g1, g2⟩ := fl_root hf s2 li hi hL z2 z4 z5
      refine ⟨1, pk_le 648 c (fun z => absurd z (by omega)) (fun _ => ⟨pk_in (2 * cc + 0) 648 (by omega), br_t ?_ (H b17 b18 b19 us ff ft g1 g2 r17 r18 r19)⟩)⟩
      rw [nI_clamp (by omega)]
      rw [hL] at z1
      exact z1
    · rcases s5 j (by omega) with ⟨_, cc, _, y3, _⟩ | ⟨j2, hj2, y1, y2⟩
      · exfalso
        rcases z2 with ⟨v, _, e⟩ | ⟨u, eu, _⟩
        · rcases e with ⟨_, e⟩ | ⟨_, x, _, e⟩
          · omega
          · omega
        · omega
      · obtain ⟨u, y, eu, ey, ul, yl, h3⟩ := fl_step hf s2 li hi hL hj hj2 z2 y2
        rw [hL, eu] at z1
        rw [eu, ey] at y1
        rcases h3 with ⟨e, ne, li'⟩ | ⟨ne, e, li'⟩ | ⟨ne, ne', li'⟩
        · subst e
          have r17' : fl_r17 n (upd b17 u 0) (fun v => us v ∧ v ≠ u) := by
            intro v hv
            by_cases ev : v = u
            · rw [ev]; exact ⟨fun x => absurd rfl x.2, fun _ => pk_us⟩
            · rw [pk_un ev]
              exact ⟨fun x => (r17 v hv).1 x.1, fun x => (r17 v hv).2 (fun z => x ⟨z, ev⟩)⟩
          obtain ⟨f, hf'⟩ := ih j2 (by omega) y (c + 1 + 1) (upd b17 u 0) (upd b18 u (-1)) (upd b19 u (-1)) _ _ _ (by omega) ey (by omega) li' r17' (fl_ro_u r18 u none) (fl_ro_u r19 u none)
          exact ⟨f + 1 + 1, fl_ee (by omega) (by omega) z1 (fl_on (by omega) (by omega) ne (by omega) y1 hf')⟩
        · subst e
          have r17' : fl_r17 n (upd b17 y 1) (fun v => v = y ∨ us v) := by
            intro v hv
            by_cases ev : v = y
            · rw [ev]; exact ⟨fun _ => pk_us, fun x => absurd (Or.inl rfl) x⟩
            · rw [pk_un ev]
              exact ⟨fun x => (r17 v hv).1 (x.resolve_left ev), fun x => (r17 v hv).2 (fun z => x (Or.inr z))⟩
          obtain ⟨f, hf'⟩ := ih j2 (by omega) y (c + 1 + 1) (upd b17 y 1) (upd b18 w (nI y)) (upd b19 y (nI w)) _ _ _ (by omega) ey (by omega) li' r17' (fl_ro_u r18 w (some y)) (fl_ro_u r19 y (some w))
          exact ⟨f + 1 + 1, fl_en (by omega) (by omega) ne (by omega) z1 (fl_oe (by omega) (by omega) y1 hf')⟩
        · obtain ⟨f, hf'⟩ := ih j2 (by omega) y (c + 1 + 1) b17 (upd b18 w (nI u)) (upd b19 u (nI w)) _ _ _ (by omega) ey (by omega) li' r17 (fl_ro_u r18 w (some u)) (fl_ro_u r19 u (some w))
          exact ⟨f + 1 + 1, fl_en (by omega) (by omega) ne (by omega) z1 (fl_on (by omega) (by omega) ne' (by omega) y1 hf')⟩
theorem ag_lead {post : St1 → Prop} {T : Nat → Int32} {n : Nat} (hn : n ≤ 26) {Pl Gl us : Nat → Prop} {ff ft : Nat → Option Nat} (hf : fl_FI T n Pl Gl us ff ft) {m : Nat} {L : Nat → Nat} {b21 : Nat → Int32} (si : fl_SI T n Pl us ff ft m L a20 b21) (r17 : fl_r17 n a17 us) (r18 : fl_ro n a18 ff) (r19 : fl_ro n a19 ft)
    {i g : Nat} (hi : i < m) (hL : L i = 2 * g + 1) (g1 : 12 * n ≤ g) (g2 : g < 12 * (n + 1)) (g3 : ¬ us g) (g4 : Gl (g - 12 * n))
    (H : ∀ b17 b18 b19 us' ff' ft', fl_FI T n Pl Gl us' ff' ft' → gq_cn us' 12 = gq_cn us 12 + 1 → fl_r17 n b17 us' → fl_ro n b18 ff' → fl_ro n b19 ft' → post (wl, pd, ct, ef, be, pf, ps, tn, a1, a2, a3, a4, a5, a6, a7, a8, a9, a10, a11, a12, a13, a14, a15, a16, b17, b18, b19, a20, a21)) : wpX_lead post (wl, pd, ct, ef, be, pf, ps, tn, a1, a2, a3, a4, a5, a6, a7, a8, a9, a10, a11, a12, a13, a14, a15, a16, a17, a18, a19, a20, a21) (nI (2 * g + 1)) := by
  have ml : m ≤ 648 := by
    have := gq_pig (24 * (n + 1)) m L si.1 si.2.1
    omega
  rcases si.2.2.2.2 i hi with ⟨_, cc, _, z3, _⟩ | ⟨j, hj, z1, z2⟩
  · omega
  · -- the node before the last one is where one comes to the goal
    have ej : L j = 2 * g := by
      rcases z2 with ⟨v, ev, e⟩ | ⟨v, ev, e⟩
      · rcases e with ⟨_, e⟩ | ⟨x1, x, x2, e⟩
        · omega
        · exfalso
          have e' : x = g := by omega
          rcases Nat.lt_or_ge v 12 with c | c
          · have := (hf.2.2.2.1 v x1 c).1
            rw [x2] at this
            exact absurd this (by simp)
          · obtain ⟨y, y1, y2, _⟩ := hf.2.2.1 v x1 c
            rw [x2] at y1
            rw [← Option.some.inj y1, e'] at y2
            exact g3 y2
      · exfalso
        rcases e with ⟨_, e⟩ | ⟨_, x, _, _, e⟩
        · omega
        · omega
    rw [hL, ej] at z1
    have li := fl_LI0 hf hi hj hL ej g1 g2 g3 g4
    have r17' : fl_r17 n (upd a17 g 1) (fun v => v = g ∨ us v) := by
      intro v hv
      by_cases ev : v = g
      · rw [ev]; exact ⟨fun _ => pk_us, fun x => absurd (Or.inl rfl) x⟩
      · rw [pk_un ev]
        exact ⟨fun x => (r17 v hv).1 (x.resolve_left ev), fun x => (r17 v hv).2 (fun z => x (Or.inr z))⟩
    obtain ⟨f, hf'⟩ := ag_lead4 hn hf si H j g 1 (upd a17 g 1) a18 a19 _ _ _ (by omega) ej (by omega) li r17' r18 r19
    exact ⟨f + 1, fl_oe (c := 0) (by omega) (by omega) z1 hf'⟩
end
end
section
theorem fl_SI_le {T : Nat → Int32} {n : Nat} {Pl us : Nat → Prop} {ff ft : Nat → Option Nat} {m : Nat} {L : Nat → Nat} {b20 b21 : Nat → Int32} (h : fl_SI T n Pl us ff ft m L b20 b21) : m ≤ 24 * (n + 1) := gq_pig _ m L h.1 h.2.1
theorem fl_SI_add {T : Nat → Int32} {n : Nat} {Pl us : Nat → Prop} {ff ft : Nat → Option Nat} {m : Nat} {L : Nat → Nat} {b20 b21 : Nat → Int32} (h : fl_SI T n Pl us ff ft m L b20 b21) {y v : Nat} (hy : y < 24 * (n + 1)) (hn : ¬ ∃ i, i < m ∧ L i = y) (hv : (v = y ∧ ∃ c, c < 12 ∧ y = 2 * c ∧ Pl c ∧ ¬ us c) ∨ (∃ j, j < m ∧ v = L j ∧ fl_RA T n us ff ft (L j) y)) :
    m < 24 * (n + 1) ∧ fl_SI T n Pl us ff ft (m + 1) (fun i => if i = m then y else L i) (upd b20 y (nI v)) (upd b21 m (nI y)) := by
  have hle := fl_SI_le h
  obtain ⟨s1, s2, s3, s4, s5⟩ := h
  have new : ∀ i, i < m → (if i = m then y else L i) = L i := fun i hi => if_neg (by omega)
  have last : (if m = m then y else L m) = y := if_pos rfl
  have ne : ∀ i, i < m → L i ≠ y := fun i hi e => hn ⟨i, hi, e⟩
  have t1 : ∀ i, i < m + 1 → (if i = m then y else L i) < 24 * (n + 1) := by
    intro i hi
    by_cases e : i = m
    · rw [if_pos e]; exact hy
    · rw [if_neg e]; exact s1 i (by omega)
  have t2 : ∀ i j, i < m + 1 → j < m + 1 → (if i = m then y else L i) = (if j = m then y else L j) → i = j := by
    intro i j hi hj e
    by_cases a : i = m
    · by_cases b : j = m
      · omega
      · rw [if_pos a, if_neg b] at e
        exact absurd e.symm (ne j (by omega))
    · by_cases b : j = m
      · rw [if_neg a, if_pos b] at e
        exact absurd e (ne i (by omega))
      · rw [if_neg a, if_neg b] at e
        exact s2 i j (by omega) (by omega) e
  have := gq_pig (24 * (n + 1)) (m + 1) (fun i => if i = m then y else L i) t1 t2
  refine ⟨by omega, t1, t2, fun i hi => ?_, fun x hx hno => ?_, fun i hi => ?_⟩
  · dsimp only
    by_cases e : i = m
    · rw [e, pk_us, if_pos rfl]
    · rw [pk_un e, if_neg e]
      exact s3 i (by omega)
  · have e : x ≠ y := fun e => hno ⟨m, by omega, by dsimp only; rw [if_pos rfl, e]⟩
    rw [pk_un e]
    exact s4 x hx (fun ⟨i, hi, e'⟩ => hno ⟨i, by omega, by dsimp only; rw [new i hi, e']⟩)
  · dsimp only
    by_cases e : i = m
    · rw [e, if_pos rfl, pk_us]
      rcases hv with ⟨v1, v2⟩ | ⟨j, j1, j2, j3⟩
      · exact Or.inl ⟨by rw [v1], v2⟩
      · exact Or.inr ⟨j, j1, by rw [new j j1, j2], by rw [new j j1]; exact j3⟩
    · rw [if_neg e, pk_un (ne i (by omega))]
      rcases s5 i (by omega) with z | ⟨j, j1, j2, j3⟩
      · exact Or.inl z
      · exact Or.inr ⟨j, j1, by rw [new j (by omega)]; exact j2, by rw [new j (by omega)]; exact j3⟩
section
variable {wl pd ct ef be pf ps tn : Int32} {a1 a2 a3 a4 a5 a6 a7 a8 a9 a10 a11 a12 a13 a14 a15 a16 a17 a18 a19 a20 a21 : Nat → Int32}
theorem fl_SI_in {T : Nat → Int32} {n : Nat} {Pl us : Nat → Prop} {ff ft : Nat → Option Nat} {m : Nat} {L : Nat → Nat} {b20 b21 : Nat → Int32} (h : fl_SI T n Pl us ff ft m L b20 b21) (hn : n ≤ 26) {i : Nat} (hi : i < m) : ¬ b20 (L i) < 0 := by
  have l := h.1 i hi
  rcases h.2.2.2.2 i hi with ⟨z, _⟩ | ⟨j, j1, j2, _⟩
  · rw [z]; exact nI_pos (by omega)
  · have l2 := h.1 j (by omega)
    rw [j2]; exact nI_pos (by omega)
theorem ag_add {post : Int32 → St1 → Prop} {T : Nat → Int32} {n : Nat} (hn : n ≤ 26) {Pl us : Nat → Prop} {ff ft : Nat → Option Nat} {m : Nat} {L : Nat → Nat} (si : fl_SI T n Pl us ff ft m L a20 a21) {y j : Nat} (hy : y < 24 * (n + 1)) (hj : j < m) (hr : fl_RA T n us ff ft (L j) y) {x0 x1 : Int32} (e0 : x0 = nI y) (e1 : x1 = nI (L j))
    (H : ∀ m' L' b20 b21, fl_SI T n Pl us ff ft m' L' b20 b21 → m ≤ m' → (∀ i, i < m → L' i = L i) → (∃ i, i < m' ∧ L' i = y) → post (nI m') (wl, pd, ct, ef, be, pf, ps, tn, a1, a2, a3, a4, a5, a6, a7, a8, a9, a10, a11, a12, a13, a14, a15, a16, a17, a18, a19, b20, b21)) : wpX_add post (wl, pd, ct, ef, be, pf, ps, tn, a1, a2, a3, a4, a5, a6, a7, a8, a9, a10, a11, a12, a13, a14, a15, a16, a17, a18, a19, a20, a21) x0 x1 (nI m) := by
  subst e0
  subst e1
  have ml := fl_SI_le si
  refine ⟨pk_in y 648 (by omega), ?_⟩
  rw [nI_clamp (show y < 2 ^ 31 by omega)]
  by_cases h : ∃ i, i < m ∧ L i = y
  · obtain ⟨i, hi, e⟩ := h
    refine br_f (by rw [← e]; exact fl_SI_in si hn hi) (H m L a20 a21 si (Nat.le_refl _) (fun _ _ => rfl) ⟨i, hi, e⟩)
  · obtain ⟨q1, q2⟩ := fl_SI_add si hy h (v := L j) (Or.inr ⟨j, hj, rfl, hr⟩)
    refine br_t (by rw [si.2.2.2.1 y hy h]; decide) ⟨pk_in y 648 (by omega), nm_e ⟨pk_in m 648 (by omega), nm_r (e' := upd a21 m (nI y)) (by rw [nI_clamp (by omega)]) ?_⟩⟩
    rw [nI_1]
    exact H (m + 1) _ _ _ q2 (by omega) (fun i hi => if_neg (by omega)) ⟨m, by omega, if_pos rfl⟩
theorem fl_odd {T : Nat → Int32} {n : Nat} {us : Nat → Prop} {ff ft : Nat → Option Nat} {v y : Nat} (h : fl_RA T n us ff ft (2 * v + 1) y) : (us v ∧ y = 2 * v) ∨ (v < 12 * n ∧ ∃ w, fl_St T v w ∧ ft v ≠ some w ∧ y = 2 * w) := by
  rcases h with ⟨x, e, _⟩ | ⟨x, e, h⟩
  · omega
  · have : x = v := by omega
    subst this
    exact h
theorem fl_even {T : Nat → Int32} {n : Nat} {us : Nat → Prop} {ff ft : Nat → Option Nat} {v y : Nat} (h : fl_RA T n us ff ft (2 * v) y) : (¬ us v ∧ y = 2 * v + 1) ∨ (us v ∧ ∃ u, ff v = some u ∧ y = 2 * u + 1) := by
  rcases h with ⟨x, e, h⟩ | ⟨x, e, _⟩
  · have : x = v := by omega
    subst this
    exact h
  · omega
theorem ag_spread89 {post : Int32 → St1 → Prop} {T : Nat → Int32} (hT : ag_TOK T) (h4 : ∀ j, j < 48 → a4 j = T j) {n : Nat} (hn : n ≤ 26) {Pl us : Nat → Prop} {ff ft : Nat → Option Nat} (r19 : fl_ro n a19 ft) (ftl : ∀ v u, v < 12 * n → ft v = some u → u < 12 * (n + 1)) {m : Nat} {L : Nat → Nat} (si : fl_SI T n Pl us ff ft m L a20 a21) {i v : Nat} (hi : i < m) (hL : L i = 2 * v + 1)
    (H : ∀ m' L' b20 b21, fl_SI T n Pl us ff ft m' L' b20 b21 → m ≤ m' → (∀ i, i < m → L' i = L i) → (∀ w, v < 12 * n → fl_St T v w → ft v ≠ some w → ∃ i, i < m' ∧ L' i = 2 * w) → post (nI m') (wl, pd, ct, ef, be, pf, ps, nI n, a1, a2, a3, a4, a5, a6, a7, a8, a9, a10, a11, a12, a13, a14, a15, a16, a17, a18, a19, b20, b21)) : wX_spread_89 post (nI (2 * v + 1)) (nI v) (nI m) wl pd ct ef be pf ps (nI n) a1 a2 a3 a4 a5 a6 a7 a8 a9 a10 a11 a12 a13 a14 a15 a16 a17 a18 a19 a20 a21 := by
  have vl := si.1 i hi
  unfold wX_spread_89
  have e12 : (12 : Int32) * nI n = nI (12 * n) := by rw [show (12 : Int32) = nI 12 from rfl, pk_mul]
  refine pk_lt v (12 * n) (fun z => ⟨by decide, ?_⟩) (fun z => H m L a20 a21 si (Nat.le_refl _) (fun _ _ => rfl) (fun w h => absurd h (by omega))) rfl e12 (by omega) (by omega)
  have e5 : (nI v - (nI v - nI v / 12 * 12)) + 12 = nI (12 * (v / 12 + 1)) := by
    rw [ag_rem12 (by omega), pk_sub (Nat.mod_le _ _), show (12 : Int32) = nI 12 from rfl, nI_add]
    exact congrArg nI (by omega)
  refine nm_r e5 ?_
  have er : nI v - nI v / 12 * 12 = nI (v % 12) := ag_rem12 (by omega)
  have xl : v % 12 < 12 := Nat.mod_lt _ (by omega)
  have key : ∃ f, (fun (f o : Nat) (u : Nat × (Nat → Int32) × (Nat → Int32)) => wX_spread_117 post (nI (2 * v + 1)) (nI v) (nI (12 * (v / 12 + 1))) f (nI u.1) (nI o) wl pd ct ef be pf ps (nI n) a1 a2 a3 a4 a5 a6 a7 a8 a9 a10 a11 a12 a13 a14 a15 a16 a17 a18 a19 u.2.1 u.2.2) f 0 (m, a20, a21) := by
    refine pk_loop (fun (f o : Nat) (u : Nat × (Nat → Int32) × (Nat → Int32)) => wX_spread_117 post (nI (2 * v + 1)) (nI v) (nI (12 * (v / 12 + 1))) f (nI u.1) (nI o) wl pd ct ef be pf ps (nI n) a1 a2 a3 a4 a5 a6 a7 a8 a9 a10 a11 a12 a13 a14 a15 a16 a17 a18 a19 u.2.1 u.2.2) (fun o u => ∃ L', fl_SI T n Pl us ff ft u.1 L' u.2.1 u.2.2 ∧ m ≤ u.1 ∧ (∀ i, i < m → L' i = L i) ∧ ∀ o' c, o' < o → c < 12 → ag_op T (v % 12) o' = nI c → ft v ≠ some (12 * (v / 12 + 1) + c) → ∃ i, i < u.1 ∧ L' i = 2 * (12 * (v / 12 + 1) + c)) 5 0 (m, a20, a21) (by omega) ⟨L, si, Nat.le_refl _, fun _ _ => rfl, fun o' c h => absurd h (by omega)⟩ ?_ ?_
    · rintro f ⟨m', b20, b21⟩ ⟨L', f1, f2, f3, f4⟩
      dsimp only at f1 f2 f4 ⊢
      refine pk_le 5 5 (fun _ => H m' L' b20 b21 f1 f2 f3 (fun w _ hs hf => ?_)) (fun y => absurd y (by omega))
      obtain ⟨o, o1, o2⟩ := ag_op_ex hs.2
      have ew := fl_12 hs.1
      rw [ew] at hf ⊢
      exact f4 o (w % 12) o1 (Nat.mod_lt _ (by omega)) o2 hf
    · rintro f o ⟨m', b20, b21⟩ ho ⟨L', f1, f2, f3, f4⟩ hw
      dsimp only at f1 f2 f4 hw ⊢
      refine pk_le 5 o (fun y => absurd y (by omega)) (fun _ => ?_)
      have ml := fl_SI_le f1
      have skip : (∀ c, c < 12 → ag_op T (v % 12) o = nI c → ft v ≠ some (12 * (v / 12 + 1) + c) → ∃ i, i < m' ∧ L' i = 2 * (12 * (v / 12 + 1) + c)) → wX_spread_117 post (nI (2 * v + 1)) (nI v) (nI (12 * (v / 12 + 1))) f (nI m') (nI (o + 1)) wl pd ct ef be pf ps (nI n) a1 a2 a3 a4 a5 a6 a7 a8 a9 a10 a11 a12 a13 a14 a15 a16 a17 a18 a19 b20 b21 := by
        intro hs
        refine hw (m', b20, b21) ⟨L', f1, f2, f3, fun o' c h1 h2 h3 h5 => ?_⟩
        by_cases e : o' = o
        · rw [e] at h3; exact hs c h2 h3 h5
        · exact f4 o' c (by omega) h2 h3 h5
      have neg : ag_op T (v % 12) o = -1 → wX_spread_151 post (wX_spread_117 post (nI (2 * v + 1)) (nI v) (nI (12 * (v / 12 + 1))) f) (nI (2 * v + 1)) (nI v) (nI m') (nI (12 * (v / 12 + 1))) (nI o) (-1) wl pd ct ef be pf ps (nI n) a1 a2 a3 a4 a5 a6 a7 a8 a9 a10 a11 a12 a13 a14 a15 a16 a17 a18 a19 b20 b21 := by
        intro h
        refine br_t (by decide) (nm_r (nI_1 o) (skip (fun c hc h3 => ?_)))
        rw [h] at h3
        exact absurd h3.symm (ag_neg1 (by omega))
      have pos : ∀ c, c < 12 → ag_op T (v % 12) o = nI c → wX_spread_151 post (wX_spread_117 post (nI (2 * v + 1)) (nI v) (nI (12 * (v / 12 + 1))) f) (nI (2 * v + 1)) (nI v) (nI m') (nI (12 * (v / 12 + 1))) (nI o) (nI c) wl pd ct ef be pf ps (nI n) a1 a2 a3 a4 a5 a6 a7 a8 a9 a10 a11 a12 a13 a14 a15 a16 a17 a18 a19 b20 b21 := by
        intro c hc h
        have inj : ∀ c', c' < 12 → ag_op T (v % 12) o = nI c' → c' = c := fun c' hc' h' => by
          rw [h] at h'
          exact ((nI_eq (by omega) (by omega)).mp h').symm
        have wlt : 12 * (v / 12 + 1) + c < 12 * (n + 1) := by omega
        refine br_f (nI_pos (by omega)) ⟨pk_in v 324 (by omega), ?_⟩
        rw [nI_clamp (show v < 2 ^ 31 by omega), r19 v (by omega), nI_add]
        have st : fl_St T v (12 * (v / 12 + 1) + c) := by
          refine ⟨by omega, ?_⟩
          rw [show (12 * (v / 12 + 1) + c) % 12 = c by omega]
          rcases ag_op_c xl ho hc h with y | y
          · exact Or.inl y.2
          · exact Or.inr y.2
        by_cases hf : ft v = some (12 * (v / 12 + 1) + c)
        · refine br_t (by rw [hf]; rfl) (nm_r (nI_1 o) (skip (fun c' hc' h' h'' => ?_)))
          rw [inj c' hc' h'] at h''
          exact absurd hf h''
        · have hneq : ¬ ag_oI (ft v) = nI (12 * (v / 12 + 1) + c) := by
            intro e
            cases hfv : ft v with
            | none =>
              rw [hfv] at e
              exact ag_neg1 (n := 12 * (v / 12 + 1) + c) (by omega) e.symm
            | some u =>
              rw [hfv] at e
              have ul := ftl v u z hfv
              have := (nI_eq (a := u) (b := 12 * (v / 12 + 1) + c) (by omega) (by omega)).mp e
              rw [hfv, this] at hf
              exact hf rfl
          refine br_f hneq ?_
          refine ag_add (j := i) hn f1 (y := 2 * (12 * (v / 12 + 1) + c)) (by omega) (by omega) (by rw [f3 i hi, hL]; exact Or.inr ⟨v, rfl, Or.inr ⟨z, _, st, hf, rfl⟩⟩) (by rw [show (2 : Int32) = nI 2 from rfl, pk_mul]) (by rw [f3 i hi, hL]) (fun m2 L2 c20 c21 e1 e2 e3 e4 => ?_)
          refine nm_r (nI_1 o) (hw (m2, c20, c21) ⟨L2, e1, by omega, fun a ha => by rw [e3 a (by omega)]; exact f3 a ha, fun o' c' h1 h2 h3 h5 => ?_⟩)
          by_cases e : o' = o
          · rw [e] at h3
            rw [inj c' h2 h3]
            exact e4
          · obtain ⟨a, a1, a2⟩ := f4 o' c' (by omega) h2 h3 h5
            exact ⟨a, by dsimp only; omega, by rw [e3 a a1]; exact a2⟩
      refine pk_eq o 0 (fun y => ⟨by decide, ?_⟩) (fun y => ⟨by decide, ?_⟩)
      · rw [er]
        exact pos (v % 12) xl (by unfold ag_op; rw [if_pos y])
      · rw [er]
        have ei : ((4 * nI (v % 12)) + nI o) - 1 = nI (4 * (v % 12) + (o - 1)) := by
          rw [ag_i4, show (1 : Int32) = nI 1 from rfl, pk_sub (by omega)]
          exact congrArg nI (by omega)
        refine ⟨pk_in (4 * (v % 12) + (o - 1)) 48 (by omega) ei, ?_⟩
        have eo : ag_op T (v % 12) o = T (4 * (v % 12) + (o - 1)) := by
          unfold ag_op
          rw [if_neg y, show 4 * (v % 12) + o - 1 = 4 * (v % 12) + (o - 1) by omega]
        rw [ei, nI_clamp (by omega), h4 _ (by omega)]
        rcases hT (v % 12) (o - 1) xl (by omega) with x | ⟨c', hc', _, x⟩
        · rw [x]; exact neg (eo.trans x)
        · rw [x]; exact pos c' hc' (eo.trans x)
  exact key
theorem ag_spread {post : Int32 → St1 → Prop} {T : Nat → Int32} (hT : ag_TOK T) (h4 : ∀ j, j < 48 → a4 j = T j) {n : Nat} (hn : n ≤ 26) {Pl us : Nat → Prop} {ff ft : Nat → Option Nat} (r17 : fl_r17 n a17 us) (r18 : fl_ro n a18 ff) (r19 : fl_ro n a19 ft) (ffl : ∀ v u, v < 12 * (n + 1) → ff v = some u → u < 12 * (n + 1)) (ftl : ∀ v u, v < 12 * n → ft v = some u → u < 12 * (n + 1)) {m : Nat} {L : Nat → Nat} (si : fl_SI T n Pl us ff ft m L a20 a21) {i : Nat} (hi : i < m)
    (H : ∀ m' L' b20 b21, fl_SI T n Pl us ff ft m' L' b20 b21 → m ≤ m' → (∀ i, i < m → L' i = L i) → (∀ y, fl_RA T n us ff ft (L i) y → ∃ i, i < m' ∧ L' i = y) → post (nI m') (wl, pd, ct, ef, be, pf, ps, nI n, a1, a2, a3, a4, a5, a6, a7, a8, a9, a10, a11, a12, a13, a14, a15, a16, a17, a18, a19, b20, b21)) : wpX_spread post (wl, pd, ct, ef, be, pf, ps, nI n, a1, a2, a3, a4, a5, a6, a7, a8, a9, a10, a11, a12, a13, a14, a15, a16, a17, a18, a19, a20, a21) (nI (L i)) (nI m) := by
  have ll := si.1 i hi
  have par : ∃ v b, b < 2 ∧ L i = 2 * v + b ∧ v < 12 * (n + 1) := ⟨L i / 2, L i % 2, by omega, by omega, by omega⟩
  obtain ⟨v, b, hb, hL, vl⟩ := par
  unfold wpX_spread
  dsimp only
  rw [hL, fl_par hb (show v < 1000 by omega), fl_half hb (show v < 1000 by omega)]
  refine ⟨by decide, nm_e ⟨by decide, ?_⟩⟩
  have hb2 : b = 0 ∨ b = 1 := by omega
  rcases hb2 with e | e <;> subst e
  · refine br_t rfl ⟨pk_in v 324 (by omega), ?_⟩
    rw [nI_clamp (show v < 2 ^ 31 by omega)]
    have hL' : L i = 2 * v := hL
    by_cases hu : us v
    · refine br_f (by rw [(r17 v vl).1 hu]; decide) ⟨pk_in v 324 (by omega), ?_⟩
      rw [r18 v vl]
      cases hfv : ff v with
      | none =>
        refine br_t (by decide) (H m L a20 a21 si (Nat.le_refl _) (fun _ _ => rfl) (fun y hy => ?_))
        rw [hL'] at hy
        rcases fl_even hy with ⟨z, _⟩ | ⟨_, u, z, _⟩
        · exact absurd hu z
        · rw [hfv] at z
          exact absurd z (by simp)
      | some u =>
        have ul := ffl v u vl hfv
        refine br_f (nI_pos (n := u) (by omega)) ⟨pk_in v 324 (by omega), ?_⟩
        refine ag_add (j := i) hn si (y := 2 * u + 1) (by omega) hi (by rw [hL']; exact Or.inl ⟨v, rfl, Or.inr ⟨hu, u, hfv, rfl⟩⟩) (by show (2 * nI u) + 1 = _; rw [show (2 : Int32) = nI 2 from rfl, pk_mul, nI_1]) (by rw [hL]) (fun m' L' b20 b21 e1 e2 e3 e4 => H m' L' b20 b21 e1 e2 e3 (fun y hy => ?_))
        rw [hL'] at hy
        rcases fl_even hy with ⟨z, _⟩ | ⟨_, u', z, z2⟩
        · exact absurd hu z
        · rw [hfv] at z
          rw [z2, ← Option.some.inj z]
          exact e4
    · refine br_t ((r17 v vl).2 hu) ?_
      refine ag_add (j := i) hn si (y := 2 * v + 1) (by omega) hi (by rw [hL']; exact Or.inl ⟨v, rfl, Or.inl ⟨hu, rfl⟩⟩) (nI_1 _) (by rw [hL]) (fun m' L' b20 b21 e1 e2 e3 e4 => H m' L' b20 b21 e1 e2 e3 (fun y hy => ?_))
      rw [hL'] at hy
      rcases fl_even hy with ⟨_, z⟩ | ⟨z, _⟩
      · rw [z]; exact e4
      · exact absurd z hu
  · refine br_f (by decide) ⟨pk_in v 324 (by omega), ?_⟩
    rw [nI_clamp (show v < 2 ^ 31 by omega)]
    by_cases hu : us v
    · refine br_f (by rw [(r17 v vl).1 hu]; decide) ?_
      refine ag_add (j := i) hn si (y := 2 * v) (by omega) hi (by rw [hL]; exact Or.inr ⟨v, rfl, Or.inl ⟨hu, rfl⟩⟩) (nI_pred (2 * v)) (by rw [hL]) (fun m' L' b20 b21 e1 e2 e3 e4 => ?_)
      refine ag_spread89 hT h4 hn r19 ftl e1 (i := i) (by omega) (by rw [e3 i hi]; exact hL) (fun m2 L2 c20 c21 x1 x2 x3 x4 => H m2 L2 c20 c21 x1 (by omega) (fun a ha => by rw [x3 a (by omega)]; exact e3 a ha) (fun y hy => ?_))
      rw [hL] at hy
      rcases fl_odd hy with ⟨_, z⟩ | ⟨z1, w, z2, z3, z4⟩
      · obtain ⟨a, a1, a2⟩ := e4
        exact ⟨a, by omega, by rw [x3 a a1, a2, z]⟩
      · rw [z4]; exact x4 w z1 z2 z3
    · refine br_t ((r17 v vl).2 hu) ?_
      refine ag_spread89 hT h4 hn r19 ftl si hi hL (fun m2 L2 c20 c21 x1 x2 x3 x4 => H m2 L2 c20 c21 x1 x2 x3 (fun y hy => ?_))
      rw [hL] at hy
      rcases fl_odd hy with ⟨z, _⟩ | ⟨z1, w, z2, z3, z4⟩
      · exact absurd z hu
      · rw [z4]; exact x4 w z1 z2 z3
theorem ag_isGoal {post : Int32 → Prop} {k : Nat} (hk : k ≤ 3) {wh q : Nat → Nat} (h7 : ∀ i, i < k → a7 i = nI (wh i) ∧ wh i < 3) (hq : ∀ w, w < 3 → a3 w = nI (q w) ∧ q w < 12) {c : Nat} (hc : c < 12) (H1 : (∃ i, i < k ∧ q (wh i) = c) → post 1) (H0 : (¬ ∃ i, i < k ∧ q (wh i) = c) → post 0) : wpX_isGoal post (wl, pd, nI k, ef, be, pf, ps, tn, a1, a2, a3, a4, a5, a6, a7, a8, a9, a10, a11, a12, a13, a14, a15, a16, a17, a18, a19, a20, a21) (nI c) := by
  refine pk_loop (σ := Unit) (fun n i _ => wX_isGoal_2 post (nI c) wl pd (nI k) ef be pf ps tn a1 a2 a3 a4 a5 a6 a7 a8 a9 a10 a11 a12 a13 a14 a15 a16 a17 a18 a19 a20 a21 n (nI i)) (fun i _ => ∀ j, j < i → q (wh j) ≠ c) k 0 () (by omega) (fun j hj => absurd hj (by omega)) ?_ ?_
  · intro n _ h
    exact pk_le k k (fun _ => H0 (fun ⟨i, hi, e⟩ => h i hi e)) (fun z => absurd z (by omega))
  · intro n i _ hi h hw
    have e7 : a7 (nI i).toNatClampNeg = nI (wh i) := by rw [nI_clamp (by omega)]; exact (h7 i hi).1
    have w3 := (h7 i hi).2
    have ql := (hq _ w3).2
    refine pk_le k i (fun z => absurd z (by omega)) (fun _ => ⟨pk_in i 3 (by omega), pk_in (wh i) 3 w3 e7, ?_⟩)
    refine pk_eq (q (wh i)) c (fun z => H1 ⟨i, hi, z⟩) (fun z => nm_r (nI_1 i) (hw () (fun j hj => ?_))) (by rw [e7, nI_clamp (by omega)]; exact (hq _ w3).1) rfl (by omega) (by omega)
    by_cases e : j = i
    · rw [e]; exact z
    · exact h j (by omega)
end
end
section
theorem fl_ffl {T : Nat → Int32} {n : Nat} {Pl Gl us : Nat → Prop} {ff ft : Nat → Option Nat} (hf : fl_FI T n Pl Gl us ff ft) : ∀ v u, v < 12 * (n + 1) → ff v = some u → u < 12 * (n + 1) := by
  intro v u hv h
  by_cases c : us v
  · rcases Nat.lt_or_ge v 12 with z | z
    · have := (hf.2.2.2.1 v c z).1
      rw [h] at this
      exact absurd this (by simp)
    · obtain ⟨x, x1, x2, _⟩ := hf.2.2.1 v c z
      rw [h] at x1
      rw [Option.some.inj x1]
      exact hf.1 x x2
  · have := (hf.2.2.2.2.1 v hv c).1
    rw [h] at this
    exact absurd this (by simp)
theorem fl_ftl {T : Nat → Int32} {n : Nat} {Pl Gl us : Nat → Prop} {ff ft : Nat → Option Nat} (hf : fl_FI T n Pl Gl us ff ft) : ∀ v u, v < 12 * n → ft v = some u → u < 12 * (n + 1) := by
  intro v u hv h
  by_cases c : us v
  · obtain ⟨x, x1, x2, _⟩ := hf.2.1 v c hv
    rw [h] at x1
    rw [Option.some.inj x1]
    exact hf.1 x x2
  · have := (hf.2.2.2.2.1 v (by omega) c).2
    rw [h] at this
    exact absurd this (by simp)
section
variable {wl pd ct ef be pf ps tn : Int32} {a1 a2 a3 a4 a5 a6 a7 a8 a9 a10 a11 a12 a13 a14 a15 a16 a17 a18 a19 a20 a21 : Nat → Int32}
theorem ag_search98 {post : Int32 → St1 → Prop} {T : Nat → Int32} (hT : ag_TOK T) (h4 : ∀ j, j < 48 → a4 j = T j) {n : Nat} (hn : n ≤ 26) {k : Nat} (hk : k ≤ 3) {wh q : Nat → Nat} (h7 : ∀ i, i < k → a7 i = nI (wh i) ∧ wh i < 3) (hq : ∀ w, w < 3 → a3 w = nI (q w) ∧ q w < 12) {Pl us : Nat → Prop} {ff ft : Nat → Option Nat}
    (hf : fl_FI T n Pl (fun c => ∃ i, i < k ∧ q (wh i) = c) us ff ft) (r17 : fl_r17 n a17 us) (r18 : fl_ro n a18 ff) (r19 : fl_ro n a19 ft) {m : Nat} {L : Nat → Nat} (si : fl_SI T n Pl us ff ft m L a20 a21) (hr : ∀ c, c < 12 → Pl c → ¬ us c → ∃ a, a < m ∧ L a = 2 * c)
    (H1 : ∀ b20 b21 m L i g, fl_SI T n Pl us ff ft m L b20 b21 → i < m → L i = 2 * g + 1 → 12 * n ≤ g → g < 12 * (n + 1) → ¬ us g → (∃ i, i < k ∧ q (wh i) = g - 12 * n) → post (nI (2 * g + 1)) (wl, pd, nI k, ef, be, pf, ps, nI n, a1, a2, a3, a4, a5, a6, a7, a8, a9, a10, a11, a12, a13, a14, a15, a16, a17, a18, a19, b20, b21))
    (H0 : ∀ b20 b21 Z, fl_Z T n Pl (fun c => ∃ i, i < k ∧ q (wh i) = c) us ff ft Z → post (-1) (wl, pd, nI k, ef, be, pf, ps, nI n, a1, a2, a3, a4, a5, a6, a7, a8, a9, a10, a11, a12, a13, a14, a15, a16, a17, a18, a19, b20, b21)) : ∃ f, wX_search_98 post f (nI m) 0 wl pd (nI k) ef be pf ps (nI n) a1 a2 a3 a4 a5 a6 a7 a8 a9 a10 a11 a12 a13 a14 a15 a16 a17 a18 a19 a20 a21 := by
  have e12 : (12 : Int32) * nI n = nI (12 * n) := by rw [show (12 : Int32) = nI 12 from rfl, pk_mul]
  have key : ∃ f, (fun (f i : Nat) (u : Nat × (Nat → Int32) × (Nat → Int32)) => wX_search_98 post f (nI u.1) (nI i) wl pd (nI k) ef be pf ps (nI n) a1 a2 a3 a4 a5 a6 a7 a8 a9 a10 a11 a12 a13 a14 a15 a16 a17 a18 a19 u.2.1 u.2.2) f 0 (m, a20, a21) := by
    refine pk_loop (fun (f i : Nat) (u : Nat × (Nat → Int32) × (Nat → Int32)) => wX_search_98 post f (nI u.1) (nI i) wl pd (nI k) ef be pf ps (nI n) a1 a2 a3 a4 a5 a6 a7 a8 a9 a10 a11 a12 a13 a14 a15 a16 a17 a18 a19 u.2.1 u.2.2) (fun i u => ∃ L, fl_SI T n Pl us ff ft u.1 L u.2.1 u.2.2 ∧ (∀ c, c < 12 → Pl c → ¬ us c → ∃ a, a < u.1 ∧ L a = 2 * c) ∧ ∀ a, a < i → a < u.1 → (∀ y, fl_RA T n us ff ft (L a) y → ∃ b, b < u.1 ∧ L b = y) ∧ (∀ g, L a = 2 * g + 1 → 12 * n ≤ g → ¬ us g → ¬ ∃ i, i < k ∧ q (wh i) = g - 12 * n)) 648 0 (m, a20, a21) (by omega) ⟨L, si, hr, fun a ha => absurd ha (by omega)⟩ ?_ ?_
    · rintro f ⟨m', b20, b21⟩ ⟨L', f1, f2, f3⟩
      dsimp only at f1 f2 f3 ⊢
      have ml := fl_SI_le f1
      refine pk_le m' 648 (fun _ => H0 b20 b21 (fun x => ∃ a, a < m' ∧ L' a = x) ⟨f2, fun x y _ hx hxy => ?_, fun v v1 v2 hv hu => ?_⟩) (fun z => absurd z (by omega))
      · obtain ⟨a, a1, a2⟩ := hx
        exact (f3 a (by omega) a1).1 y (by rw [a2]; exact hxy)
      · obtain ⟨a, a1, a2⟩ := hv
        exact (f3 a (by omega) a1).2 v a2 v1 hu
    · rintro f i ⟨m', b20, b21⟩ hi ⟨L', f1, f2, f3⟩ hw
      dsimp only at f1 f2 f3 hw ⊢
      have ml := fl_SI_le f1
      refine pk_le m' i (fun z => H0 b20 b21 (fun x => ∃ a, a < m' ∧ L' a = x) ⟨f2, fun x y _ hx hxy => ?_, fun v v1 v2 hv hu => ?_⟩) (fun im => ?_)
      · obtain ⟨a, a1, a2⟩ := hx
        exact (f3 a (by omega) a1).1 y (by rw [a2]; exact hxy)
      · obtain ⟨a, a1, a2⟩ := hv
        exact (f3 a (by omega) a1).2 v a2 v1 hu
      refine pk_le 648 i (fun z => absurd z (by omega)) (fun _ => ⟨pk_in i 648 hi, nm_r (e' := nI (L' i)) (by rw [nI_clamp (by omega)]; exact f1.2.2.1 i im) ?_⟩)
      have ll := f1.1 i im
      have go : (∀ g, L' i = 2 * g + 1 → 12 * n ≤ g → ¬ us g → ¬ ∃ i, i < k ∧ q (wh i) = g - 12 * n) → wX_search_182 post (wX_search_98 post f) (nI m') (nI i) (nI (L' i)) wl pd (nI k) ef be pf ps (nI n) a1 a2 a3 a4 a5 a6 a7 a8 a9 a10 a11 a12 a13 a14 a15 a16 a17 a18 a19 b20 b21 := by
        intro hg
        unfold wX_search_182
        refine ag_spread hT h4 hn r17 r18 r19 (fl_ffl hf) (fl_ftl hf) f1 im (fun m2 L2 c20 c21 e1 e2 e3 e4 => ?_)
        refine nm_r (nI_1 i) (hw (m2, c20, c21) ⟨L2, e1, fun c hc h1 h2 => ?_, fun a ha ha2 => ⟨fun y hy => ?_, fun g hg1 hg2 hg3 => ?_⟩⟩)
        · obtain ⟨a, a1, a2⟩ := f2 c hc h1 h2
          exact ⟨a, by dsimp only; omega, by rw [e3 a a1]; exact a2⟩
        · by_cases e : a = i
          · rw [e, e3 i im] at hy
            exact e4 y hy
          · rw [e3 a (by omega)] at hy
            obtain ⟨b, b1, b2⟩ := (f3 a (by omega) (by omega)).1 y hy
            exact ⟨b, by dsimp only; omega, by rw [e3 b b1]; exact b2⟩
        · by_cases e : a = i
          · rw [e, e3 i im] at hg1
            exact hg g hg1 hg2 hg3
          · rw [e3 a (by omega)] at hg1
            exact (f3 a (by omega) (by omega)).2 g hg1 hg2 hg3
      have par : ∃ v b, b < 2 ∧ L' i = 2 * v + b ∧ v < 12 * (n + 1) := ⟨L' i / 2, L' i % 2, by omega, by omega, by omega⟩
      obtain ⟨v, b, hb, hL, vl⟩ := par
      have eh : nI (L' i) / 2 = nI v := by rw [hL]; exact fl_half hb (by omega)
      have ep : nI (L' i) - nI (L' i) / 2 * 2 = nI b := by rw [hL]; exact fl_par hb (by omega)
      refine ⟨by decide, nm_r eh ⟨by decide, ?_⟩⟩
      rw [ep]
      have hb2 : b = 0 ∨ b = 1 := by omega
      rcases hb2 with e | e <;> subst e
      · exact br_f (by decide) (br_t rfl (go (fun g hg => absurd hg (by omega))))
      · refine br_t rfl ?_
        have ug : ∀ g, L' i = 2 * g + 1 → g = v := fun g hg => by omega
        refine pk_lt v (12 * n) (fun z => br_t rfl (go (fun g hg h1 => absurd (ug g hg) (by omega)))) (fun z => ⟨pk_in v 324 (by omega), ?_⟩) rfl e12 (by omega) (by omega)
        rw [nI_clamp (show v < 2 ^ 31 by omega)]
        by_cases hu : us v
        · refine br_f (by rw [(r17 v vl).1 hu]; decide) (br_t rfl (go (fun g hg h1 h2 => ?_)))
          rw [ug g hg] at h2
          exact absurd hu h2
        · refine br_t ((r17 v vl).2 hu) (br_f (by decide) ?_)
          have es : nI v - (12 * nI n) = nI (v - 12 * n) := by rw [e12, pk_sub z]
          rw [es]
          refine ag_isGoal hk h7 hq (c := v - 12 * n) (by omega) (fun hg => br_f (by decide) ?_) (fun hg => br_t rfl (go (fun g hg1 h1 h2 => ?_)))
          · rw [hL]
            exact H1 b20 b21 m' L' i v f1 im hL z vl hu hg
          · rw [ug g hg1]
            exact hg
  exact key
theorem ag_search {post : Int32 → St1 → Prop} {T : Nat → Int32} (hT : ag_TOK T) (h4 : ∀ j, j < 48 → a4 j = T j) {n : Nat} (hn : n ≤ 26) {k : Nat} (hk : k ≤ 3) {wh p q : Nat → Nat} (h7 : ∀ i, i < k → a7 i = nI (wh i) ∧ wh i < 3) (hp : ∀ w, w < 3 → a2 w = nI (p w) ∧ p w < 12) (hq : ∀ w, w < 3 → a3 w = nI (q w) ∧ q w < 12) (pinj : ∀ i j, i < k → j < k → p (wh i) = p (wh j) → i = j) {us : Nat → Prop} {ff ft : Nat → Option Nat}
    (hf : fl_FI T n (fun c => ∃ i, i < k ∧ p (wh i) = c) (fun c => ∃ i, i < k ∧ q (wh i) = c) us ff ft) (r17 : fl_r17 n a17 us) (r18 : fl_ro n a18 ff) (r19 : fl_ro n a19 ft)
    (H1 : ∀ b20 b21 m L i g, fl_SI T n (fun c => ∃ i, i < k ∧ p (wh i) = c) us ff ft m L b20 b21 → i < m → L i = 2 * g + 1 → 12 * n ≤ g → g < 12 * (n + 1) → ¬ us g → (∃ i, i < k ∧ q (wh i) = g - 12 * n) → post (nI (2 * g + 1)) (wl, pd, nI k, ef, be, pf, ps, nI n, a1, a2, a3, a4, a5, a6, a7, a8, a9, a10, a11, a12, a13, a14, a15, a16, a17, a18, a19, b20, b21))
    (H0 : ∀ b20 b21 Z, fl_Z T n (fun c => ∃ i, i < k ∧ p (wh i) = c) (fun c => ∃ i, i < k ∧ q (wh i) = c) us ff ft Z → post (-1) (wl, pd, nI k, ef, be, pf, ps, nI n, a1, a2, a3, a4, a5, a6, a7, a8, a9, a10, a11, a12, a13, a14, a15, a16, a17, a18, a19, b20, b21)) : wpX_search post (wl, pd, nI k, ef, be, pf, ps, nI n, a1, a2, a3, a4, a5, a6, a7, a8, a9, a10, a11, a12, a13, a14, a15, a16, a17, a18, a19, a20, a21) := by
  have e24 : (24 : Int32) * (nI n + 1) = nI (24 * (n + 1)) := by rw [nI_1, show (24 : Int32) = nI 24 from rfl, pk_mul]
  refine pk_loop (fun f i s => wX_search_2 post wl pd (nI k) ef be pf ps (nI n) f (nI i) a1 a2 a3 a4 a5 a6 a7 a8 a9 a10 a11 a12 a13 a14 a15 a16 a17 a18 a19 s a21) (fun i s => ∀ x, x < i → s x = -1) (24 * (n + 1)) 0 a20 (by omega) (fun x hx => absurd hx (by omega)) ?_ ?_
  · intro f s h
    refine pk_le (24 * (n + 1)) (24 * (n + 1)) (fun _ => ?_) (fun z => absurd z (by omega)) e24
    have key : ∃ f, (fun (f i : Nat) (u : Nat × (Nat → Int32) × (Nat → Int32)) => wX_search_32 post wl pd (nI k) ef be pf ps (nI n) f (nI u.1) (nI i) a1 a2 a3 a4 a5 a6 a7 a8 a9 a10 a11 a12 a13 a14 a15 a16 a17 a18 a19 u.2.1 u.2.2) f 0 (0, s, a21) := by
      refine pk_loop (fun (f i : Nat) (u : Nat × (Nat → Int32) × (Nat → Int32)) => wX_search_32 post wl pd (nI k) ef be pf ps (nI n) f (nI u.1) (nI i) a1 a2 a3 a4 a5 a6 a7 a8 a9 a10 a11 a12 a13 a14 a15 a16 a17 a18 a19 u.2.1 u.2.2) (fun i u => ∃ L, fl_SI T n (fun c => ∃ i, i < k ∧ p (wh i) = c) us ff ft u.1 L u.2.1 u.2.2 ∧ (∀ a, a < u.1 → ∃ j, j < i ∧ L a = 2 * p (wh j)) ∧ ∀ j, j < i → ¬ us (p (wh j)) → ∃ a, a < u.1 ∧ L a = 2 * p (wh j)) k 0 (0, s, a21) (by omega) ⟨fun _ => 0, ⟨fun i hi => absurd hi (Nat.not_lt_zero i), fun i j hi => absurd hi (Nat.not_lt_zero i), fun i hi => absurd hi (Nat.not_lt_zero i), fun x hx _ => h x hx, fun i hi => absurd hi (Nat.not_lt_zero i)⟩, fun a ha => absurd ha (Nat.not_lt_zero a), fun j hj => absurd hj (by omega)⟩ ?_ ?_
      · rintro f ⟨m, b20, b21⟩ ⟨L, f1, f2, f3⟩
        dsimp only at f1 f2 f3 ⊢
        refine pk_le k k (fun _ => ag_search98 hT h4 hn hk h7 hq hf r17 r18 r19 f1 (fun c hc h1 h2 => ?_) H1 H0) (fun z => absurd z (by omega))
        obtain ⟨j, j1, j2⟩ := h1
        rw [← j2] at h2 ⊢
        exact f3 j j1 h2
      · rintro f i ⟨m, b20, b21⟩ hi ⟨L, f1, f2, f3⟩ hw
        dsimp only at f1 f2 f3 hw ⊢
        have e7 : a7 (nI i).toNatClampNeg = nI (wh i) := by rw [nI_clamp (by omega)]; exact (h7 i hi).1
        have w3 := (h7 i hi).2
        have pl := (hp _ w3).2
        have e2 : a2 (a7 (nI i).toNatClampNeg).toNatClampNeg = nI (p (wh i)) := by rw [e7, nI_clamp (by omega)]; exact (hp _ w3).1
        have ml := fl_SI_le f1
        refine pk_le k i (fun z => absurd z (by omega)) (fun _ => ⟨pk_in i 3 (by omega), pk_in (wh i) 3 w3 e7, nm_r (e' := nI (2 * p (wh i))) (by rw [e2, show (2 : Int32) = nI 2 from rfl, pk_mul]) ⟨pk_in i 3 (by omega), pk_in (wh i) 3 w3 e7, pk_in (p (wh i)) 324 (by omega) e2, ?_⟩⟩)
        rw [e2, nI_clamp (show p (wh i) < 2 ^ 31 by omega)]
        by_cases hu : us (p (wh i))
        · refine br_f (by rw [(r17 _ (by omega)).1 hu]; decide) (nm_r (nI_1 i) (hw (m, b20, b21) ⟨L, f1, fun a ha => ?_, fun j hj hu' => ?_⟩))
          · obtain ⟨j, j1, j2⟩ := f2 a ha
            exact ⟨j, by omega, j2⟩
          · by_cases e : j = i
            · rw [e] at hu'
              exact absurd hu hu'
            · exact f3 j (by omega) hu'
        · have hno : ¬ ∃ a, a < m ∧ L a = 2 * p (wh i) := by
            rintro ⟨a, a1, a2'⟩
            obtain ⟨j, j1, j2⟩ := f2 a a1
            have := pinj j i (by omega) hi (by omega)
            omega
          obtain ⟨q1, q2⟩ := fl_SI_add f1 (y := 2 * p (wh i)) (by omega) hno (v := 2 * p (wh i)) (Or.inl ⟨rfl, p (wh i), pl, rfl, ⟨i, hi, rfl⟩, hu⟩)
          refine br_t ((r17 _ (by omega)).2 hu) ⟨pk_in (2 * p (wh i)) 648 (by omega), nm_r (e' := upd b20 (2 * p (wh i)) (nI (2 * p (wh i)))) (by rw [nI_clamp (by omega)]) ⟨pk_in m 648 (by omega), nm_r (e' := upd b21 m (nI (2 * p (wh i)))) (by rw [nI_clamp (by omega)]) (nm_r (nI_1 m) (nm_r (nI_1 i) (hw (m + 1, upd b20 (2 * p (wh i)) (nI (2 * p (wh i))), upd b21 m (nI (2 * p (wh i)))) ⟨_, q2, fun a ha => ?_, fun j hj hu' => ?_⟩)))⟩⟩
          · dsimp only at ha ⊢
            by_cases e : a = m
            · rw [if_pos e]; exact ⟨i, by omega, rfl⟩
            · rw [if_neg e]
              obtain ⟨j, j1, j2⟩ := f2 a (by omega)
              exact ⟨j, by omega, j2⟩
          · dsimp only
            by_cases e : j = i
            · rw [e]; exact ⟨m, by omega, if_pos rfl⟩
            · obtain ⟨a, a1, a2'⟩ := f3 j (by omega) hu'
              exact ⟨a, by omega, (if_neg (by omega)).trans a2'⟩
    exact key
  · intro f i s hi h hw
    refine pk_le (24 * (n + 1)) i (fun z => absurd z (by omega)) (fun _ => ⟨pk_in i 648 (by omega), nm_e (nm_r (nI_1 i) (hw _ ?_))⟩) e24
    exact ag_fill (f := fun _ => -1) (nI_clamp (by omega)) h rfl
theorem ag_flow {post : Int32 → St1 → Prop} {T : Nat → Int32} (hT : ag_TOK T) (h4 : ∀ j, j < 48 → a4 j = T j) {n : Nat} (hn : n ≤ 26) {k : Nat} (hk : k ≤ 3) {wh p q : Nat → Nat} (h7 : ∀ i, i < k → a7 i = nI (wh i) ∧ wh i < 3) (hp : ∀ w, w < 3 → a2 w = nI (p w) ∧ p w < 12) (hq : ∀ w, w < 3 → a3 w = nI (q w) ∧ q w < 12) (pinj : ∀ i j, i < k → j < k → p (wh i) = p (wh j) → i = j)
    (H : ∀ u b17 b18 b19 b20 b21 us ff ft, fl_FI T n (fun c => ∃ i, i < k ∧ p (wh i) = c) (fun c => ∃ i, i < k ∧ q (wh i) = c) us ff ft → gq_cn us 12 = u → (u = 3 ∨ ∃ Z, fl_Z T n (fun c => ∃ i, i < k ∧ p (wh i) = c) (fun c => ∃ i, i < k ∧ q (wh i) = c) us ff ft Z) → post (nI u) (wl, pd, nI k, ef, be, pf, ps, nI n, a1, a2, a3, a4, a5, a6, a7, a8, a9, a10, a11, a12, a13, a14, a15, a16, b17, b18, b19, b20, b21)) : wpX_flow post (wl, pd, nI k, ef, be, pf, ps, nI n, a1, a2, a3, a4, a5, a6, a7, a8, a9, a10, a11, a12, a13, a14, a15, a16, a17, a18, a19, a20, a21) := by
  have e12 : (12 : Int32) * (nI n + 1) = nI (12 * (n + 1)) := by rw [nI_1, show (12 : Int32) = nI 12 from rfl, pk_mul]
  refine pk_loop (fun (f i : Nat) (s : (Nat → Int32) × (Nat → Int32) × (Nat → Int32)) => wX_flow_2 post wl pd (nI k) ef be pf ps (nI n) f (nI i) a1 a2 a3 a4 a5 a6 a7 a8 a9 a10 a11 a12 a13 a14 a15 a16 s.1 s.2.1 s.2.2 a20 a21) (fun i s => ∀ v, v < i → s.1 v = 0 ∧ s.2.1 v = -1 ∧ s.2.2 v = -1) (12 * (n + 1)) 0 (a17, a18, a19) (by omega) (fun x hx => absurd hx (by omega)) ?_ ?_
  · rintro f ⟨c17, c18, c19⟩ h
    dsimp only at h ⊢
    refine pk_le (12 * (n + 1)) (12 * (n + 1)) (fun _ => ?_) (fun z => absurd z (by omega)) e12
    have fi0 : fl_FI T n (fun c => ∃ i, i < k ∧ p (wh i) = c) (fun c => ∃ i, i < k ∧ q (wh i) = c) (fun _ => False) (fun _ => none) (fun _ => none) := ⟨fun _ z => z.elim, fun _ z => z.elim, fun _ z => z.elim, fun _ z => z.elim, fun _ _ _ => ⟨rfl, rfl⟩, fun _ z => z.elim⟩
    have key : ∃ f, (fun (f i : Nat) (s : Nat × Nat × (Nat → Int32) × (Nat → Int32) × (Nat → Int32) × (Nat → Int32) × (Nat → Int32)) => wX_flow_48 post f (nI s.1) (nI s.2.1) (nI i) wl pd (nI k) ef be pf ps (nI n) a1 a2 a3 a4 a5 a6 a7 a8 a9 a10 a11 a12 a13 a14 a15 a16 s.2.2.1 s.2.2.2.1 s.2.2.2.2.1 s.2.2.2.2.2.1 s.2.2.2.2.2.2) f 0 (0, 1, c17, c18, c19, a20, a21) := by
      refine pk_loop (fun (f i : Nat) (s : Nat × Nat × (Nat → Int32) × (Nat → Int32) × (Nat → Int32) × (Nat → Int32) × (Nat → Int32)) => wX_flow_48 post f (nI s.1) (nI s.2.1) (nI i) wl pd (nI k) ef be pf ps (nI n) a1 a2 a3 a4 a5 a6 a7 a8 a9 a10 a11 a12 a13 a14 a15 a16 s.2.2.1 s.2.2.2.1 s.2.2.2.2.1 s.2.2.2.2.2.1 s.2.2.2.2.2.2) (fun i s => ∃ us ff ft, fl_FI T n (fun c => ∃ i, i < k ∧ p (wh i) = c) (fun c => ∃ i, i < k ∧ q (wh i) = c) us ff ft ∧ fl_r17 n s.2.2.1 us ∧ fl_ro n s.2.2.2.1 ff ∧ fl_ro n s.2.2.2.2.1 ft ∧ gq_cn us 12 = s.1 ∧ ((s.2.1 = 1 ∧ s.1 = i) ∨ (s.2.1 = 0 ∧ ∃ Z, fl_Z T n (fun c => ∃ i, i < k ∧ p (wh i) = c) (fun c => ∃ i, i < k ∧ q (wh i) = c) us ff ft Z))) 3 0 (0, 1, c17, c18, c19, a20, a21) (by omega) ⟨fun _ => False, fun _ => none, fun _ => none, fi0, fun v hv => ⟨fun z => z.elim, fun _ => (h v hv).1⟩, fun v hv => (h v hv).2.1, fun v hv => (h v hv).2.2, gq_cn_0 12 (fun _ _ z => z), Or.inl ⟨rfl, rfl⟩⟩ ?_ ?_
      · rintro f ⟨u, mo, d17, d18, d19, d20, d21⟩ ⟨us, ff, ft, f1, f2, f3, f4, f5, f6⟩
        dsimp only at f1 f2 f3 f4 f5 f6 ⊢
        refine pk_le 3 3 (fun _ => H u d17 d18 d19 d20 d21 us ff ft f1 f5 ?_) (fun z => absurd z (by omega))
        rcases f6 with z | z
        · exact Or.inl z.2
        · exact Or.inr z.2
      · rintro f i ⟨u, mo, d17, d18, d19, d20, d21⟩ hi ⟨us, ff, ft, f1, f2, f3, f4, f5, f6⟩ hw
        dsimp only at f1 f2 f3 f4 f5 f6 hw ⊢
        refine pk_le 3 i (fun z => absurd z (by omega)) (fun _ => ?_)
        rcases f6 with ⟨z1, z2⟩ | ⟨z1, z2⟩
        · subst z1
          refine br_f (by decide) ?_
          refine ag_search hT h4 hn hk h7 hp hq pinj f1 f2 f3 f4 (fun b20 b21 m L a g e1 e2 e3 e4 e5 e6 e7 => ?_) (fun b20 b21 Z hz => ?_)
          · dsimp only
            refine br_f (nI_pos (by omega)) (br_f (by decide) ?_)
            refine ag_lead hn f1 e1 f2 f3 f4 e2 e3 e4 e5 e6 e7 (fun g17 g18 g19 us' ff' ft' x1 x2 x3 x4 x5 => ?_)
            exact nm_r (nI_1 u) (nm_r (nI_1 i) (hw (u + 1, 1, g17, g18, g19, b20, b21) ⟨us', ff', ft', x1, x3, x4, x5, by rw [x2, f5], Or.inl ⟨rfl, by dsimp only; omega⟩⟩))
          · dsimp only
            exact br_t (by decide) (br_t rfl (nm_r (nI_1 i) (hw (u, 0, d17, d18, d19, b20, b21) ⟨us, ff, ft, f1, f2, f3, f4, f5, Or.inr ⟨rfl, Z, hz⟩⟩)))
        · subst z1
          exact br_t rfl (H u d17 d18 d19 d20 d21 us ff ft f1 f5 (Or.inr z2))
    exact key
  · rintro f i ⟨c17, c18, c19⟩ hi h hw
    dsimp only at h hw ⊢
    refine pk_le (12 * (n + 1)) i (fun z => absurd z (by omega)) (fun _ => ⟨pk_in i 324 (by omega), nm_r (e' := upd c17 i 0) (by rw [nI_clamp (by omega)]) ⟨pk_in i 324 (by omega), nm_r (e' := upd c18 i (-1)) (by rw [nI_clamp (by omega)]) ⟨pk_in i 324 (by omega), nm_r (e' := upd c19 i (-1)) (by rw [nI_clamp (by omega)]) (nm_r (nI_1 i) (hw (upd c17 i 0, upd c18 i (-1), upd c19 i (-1)) (fun v hv => ?_)))⟩⟩⟩) e12
    dsimp only
    by_cases e : v = i
    · rw [e]; exact ⟨pk_us, pk_us, pk_us⟩
    · rw [pk_un e, pk_un e, pk_un e]
      exact h v (by omega)
end
/-- what a swarm answers: -2 and not all have a way; else the least number of turns of a joint walk into the goals -/
def ag_GP (k : Nat) (q : Nat → Nat) (b : Nat) : Prop := ∀ i, i < k → ∃ j, j < k ∧ q j = ag_ce b i
def ag_SS (T : Nat → Int32) (k : Nat) (p q : Nat → Nat) (s0 : Nat) (r : Int32) : Prop :=
  (r = -2 ∧ ¬ ∀ i, i < k → ∃ m, gq_wk (ag_E T) m (p i) (q i)) ∨
  ∃ n, r = nI n ∧ n ≤ 26 ∧ (∃ b, ag_GP k q b ∧ gq_wk (ag_JC T k) n s0 b) ∧ ∀ m, m < n → ¬ ∃ b, ag_GP k q b ∧ gq_wk (ag_JC T k) m s0 b
section
variable {wl pd ct ef be pf ps tn : Int32} {a1 a2 a3 a4 a5 a6 a7 a8 a9 a10 a11 a12 a13 a14 a15 a16 a17 a18 a19 a20 a21 : Nat → Int32}
theorem ag_swarm {post : Int32 → St1 → Prop} {t : Nat} (hr : ag_rdy wl pd (nI t) a2 a3) (ht : t < 8) (ht1 : 1 ≤ t) {p q : Nat → Nat} (hp : ∀ w, w < 3 → a2 w = nI (p w) ∧ p w < 12) (hq : ∀ w, w < 3 → a3 w = nI (q w) ∧ q w < 12) (hd : ∀ i j, i < j → j < 3 → ag_bt t i → ag_bt t j → p i ≠ p j ∧ q i ≠ q j)
    {s0 : Nat} (s0d : ag_dif (ag_kc t 3) s0) (s0c : ∀ i, i < ag_kc t 3 → ag_ce s0 i = p (ag_wh t i))
    (H : ∀ (r : Int32) (ctx efx bex pfx psx tnx : Int32) (a4x a5x a6x a7x a8x a9x a10x a11x a12x a13x a14x a15x a16x a17x a18x a19x a20x a21x : Nat → Int32), ag_SS (ag_tab wl a1) (ag_kc t 3) (fun i => p (ag_wh t i)) (fun i => q (ag_wh t i)) s0 r → post r (wl, pd, ctx, efx, bex, pfx, psx, tnx, a1, a2, a3, a4x, a5x, a6x, a7x, a8x, a9x, a10x, a11x, a12x, a13x, a14x, a15x, a16x, a17x, a18x, a19x, a20x, a21x)) : wpX_swarm post (wl, pd, ct, ef, be, pf, ps, tn, a1, a2, a3, a4, a5, a6, a7, a8, a9, a10, a11, a12, a13, a14, a15, a16, a17, a18, a19, a20, a21) (nI t) := by
  unfold wpX_swarm
  dsimp only
  refine ag_isReady (fun _ => br_f (by decide) ?_) (fun h => absurd hr h)
  have hT := ag_tab_ok wl a1
  obtain ⟨hk, hk1', _⟩ := ag_kc_3 t ht
  have hk1 := hk1' ht1
  have wok : ∀ i, i < ag_kc t 3 → ag_bt t (ag_wh t i) ∧ ag_wh t i < 3 ∧ ag_kc t (ag_wh t i) = i := fun i hi => ag_wh_ok t ht i (by omega) hi
  have dd : ∀ i j, i < ag_kc t 3 → j < ag_kc t 3 → i ≠ j → p (ag_wh t i) ≠ p (ag_wh t j) ∧ q (ag_wh t i) ≠ q (ag_wh t j) := by
    intro i j hi hj hn
    rcases Nat.lt_trichotomy i j with z | z | z
    · exact hd _ _ (ag_wh_mono t ht i (by omega) j (by omega) z hj) (wok j hj).2.1 (wok i hi).1 (wok j hj).1
    · exact absurd z hn
    · have := hd _ _ (ag_wh_mono t ht j (by omega) i (by omega) z hi) (wok i hi).2.1 (wok j hj).1 (wok i hi).1
      exact ⟨fun e => this.1 e.symm, fun e => this.2 e.symm⟩
  have pinj : ∀ i j, i < ag_kc t 3 → j < ag_kc t 3 → p (ag_wh t i) = p (ag_wh t j) → i = j := by
    intro i j hi hj e
    by_cases c : i = j
    · exact c
    · exact absurd e (dd i j hi hj c).1
  have qinj : ∀ i j, i < ag_kc t 3 → j < ag_kc t 3 → q (ag_wh t i) = q (ag_wh t j) → i = j := by
    intro i j hi hj e
    by_cases c : i = j
    · exact c
    · exact absurd e (dd i j hi hj c).2
  refine ag_laySteps (fun b4 h4 => ?_)
  dsimp only
  refine ag_gather (ct := ct) ht (fun b7 h7 => ?_)
  dsimp only
  have h7' : ∀ i, i < ag_kc t 3 → b7 i = nI (ag_wh t i) ∧ ag_wh t i < 3 := fun i hi => ⟨h7 i hi, (wok i hi).2.1⟩
  have hPl : ∀ c, c < 12 → (∃ i, i < ag_kc t 3 ∧ p (ag_wh t i) = c) → ∃ i, i < ag_kc t 3 ∧ ag_ce s0 i = c := by
    rintro c _ ⟨i, hi, e⟩
    exact ⟨i, hi, by rw [s0c i hi]; exact e⟩
  have cP : ag_kc t 3 ≤ gq_cn (fun c => ∃ i, i < ag_kc t 3 ∧ p (ag_wh t i) = c) 12 := by
    have := gq_cn_inj (p := fun _ => True) (ag_kc t 3) (q := fun c => ∃ i, i < ag_kc t 3 ∧ p (ag_wh t i) = c) (n := 12) (fun i => p (ag_wh t i)) (fun i hi _ => ⟨(hp _ (wok i hi).2.1).2, i, hi, rfl⟩) (fun i j hi hj _ _ e => pinj i j hi hj e)
    rw [gq_cn_all _ (fun _ _ => trivial)] at this
    exact this
  have key : ∃ f, (fun (f i : Nat) (s : Int32 × (Nat → Int32) × (Nat → Int32) × (Nat → Int32) × (Nat → Int32) × (Nat → Int32)) => wX_swarm_21 post f (nI i) wl pd (nI (ag_kc t 3)) ef be pf ps s.1 a1 a2 a3 b4 a5 a6 b7 a8 a9 a10 a11 a12 a13 a14 a15 a16 s.2.1 s.2.2.1 s.2.2.2.1 s.2.2.2.2.1 s.2.2.2.2.2) f 0 (tn, a17, a18, a19, a20, a21) := by
    refine pk_loop (fun (f i : Nat) (s : Int32 × (Nat → Int32) × (Nat → Int32) × (Nat → Int32) × (Nat → Int32) × (Nat → Int32)) => wX_swarm_21 post f (nI i) wl pd (nI (ag_kc t 3)) ef be pf ps s.1 a1 a2 a3 b4 a5 a6 b7 a8 a9 a10 a11 a12 a13 a14 a15 a16 s.2.1 s.2.2.1 s.2.2.2.1 s.2.2.2.2.1 s.2.2.2.2.2) (fun i s => ∀ m, m < i → (¬ ∃ b, ag_GP (ag_kc t 3) (fun i => q (ag_wh t i)) b ∧ gq_wk (ag_JC (ag_tab wl a1) (ag_kc t 3)) m s0 b) ∧ (12 ≤ m → ¬ ∀ i, i < ag_kc t 3 → ∃ m, gq_wk (ag_E (ag_tab wl a1)) m (p (ag_wh t i)) (q (ag_wh t i)))) 27 0 (tn, a17, a18, a19, a20, a21) (by omega) (fun m hm => absurd hm (by omega)) ?_ ?_
    · rintro f ⟨tn', d17, d18, d19, d20, d21⟩ h
      exact pk_lt 26 27 (fun _ => H _ _ _ _ _ _ _ _ _ _ _ _ _ _ _ _ _ _ _ _ _ _ _ _ _ (Or.inl ⟨rfl, (h 26 (by omega)).2 (by omega)⟩)) (fun z => absurd z (by omega))
    · rintro f i ⟨tn', d17, d18, d19, d20, d21⟩ hi h hw
      dsimp only at hw ⊢
      refine pk_lt 26 i (fun z => absurd z (by omega)) (fun _ => ?_)
      refine ag_flow hT h4 (n := i) (by omega) hk h7' hp hq pinj (fun u e17 e18 e19 e20 e21 us ff ft fi hu hz => ?_)
      dsimp only
      have uk : u ≤ ag_kc t 3 := by
        have hx : ∀ c, ∃ j, (c < 12 ∧ us c) → j < ag_kc t 3 ∧ p (ag_wh t j) = c := by
          intro c
          by_cases y : c < 12 ∧ us c
          · obtain ⟨j, hj⟩ := (fi.2.2.2.1 c y.2 y.1).2
            exact ⟨j, fun _ => hj⟩
          · exact ⟨0, fun z => absurd z y⟩
        have hF : ∃ F : Nat → Nat, ∀ c, (c < 12 ∧ us c) → F c < ag_kc t 3 ∧ p (ag_wh t (F c)) = c := ⟨fun c => Classical.choose (hx c), fun c h => Classical.choose_spec (hx c) h⟩
        obtain ⟨F, hF⟩ := hF
        have := gq_cn_inj (p := us) 12 (q := fun _ => True) (n := ag_kc t 3) F (fun c hc y => ⟨(hF c ⟨hc, y⟩).1, trivial⟩) (fun c d hc hd y y' e => by rw [← (hF c ⟨hc, y⟩).2, ← (hF d ⟨hd, y'⟩).2, e])
        have h2 := gq_cn_le (p := fun _ => True) (ag_kc t 3)
        omega
      refine pk_eq u (ag_kc t 3) (fun z => ?_) (fun z => ?_) rfl rfl (by omega) (by omega)
      · obtain ⟨b, b1, b2⟩ := fl_sound fi hk hPl (hu.trans z) s0d
        exact H _ _ _ _ _ _ _ _ _ _ _ _ _ _ _ _ _ _ _ _ _ _ _ _ _ (Or.inr ⟨i, rfl, by omega, ⟨b, b2, b1⟩, fun m hm => (h m hm).1⟩)
      · have hz : ∃ Z, fl_Z (ag_tab wl a1) i (fun c => ∃ j, j < ag_kc t 3 ∧ p (ag_wh t j) = c) (fun c => ∃ j, j < ag_kc t 3 ∧ q (ag_wh t j) = c) us ff ft Z := hz.resolve_left (fun e => by omega)
        obtain ⟨Z, hz⟩ := hz
        refine nm_r (nI_1 i) (hw (nI i, e17, e18, e19, e20, e21) (fun m hm => ?_))
        by_cases e : m = i
        · rw [e]
          refine ⟨?_, fun h12 hfin => ?_⟩
          · rintro ⟨b, b1, b2⟩
            exact fl_complete fi hz cP hPl hu (by omega) b2 s0d b1
          · have hx : ∀ c, ∃ j, (∃ i, i < ag_kc t 3 ∧ p (ag_wh t i) = c) → j < ag_kc t 3 ∧ p (ag_wh t j) = c := by
              intro c
              by_cases y : ∃ i, i < ag_kc t 3 ∧ p (ag_wh t i) = c
              · obtain ⟨j, hj⟩ := y
                exact ⟨j, fun _ => hj⟩
              · exact ⟨0, fun z => absurd z y⟩
            have hF : ∃ F : Nat → Nat, ∀ c, (∃ i, i < ag_kc t 3 ∧ p (ag_wh t i) = c) → F c < ag_kc t 3 ∧ p (ag_wh t (F c)) = c := ⟨fun c => Classical.choose (hx c), fun c h => Classical.choose_spec (hx c) h⟩
            obtain ⟨F, hF⟩ := hF
            refine fl_grow fi hz h12 cP hu (by omega) (G := fun c => q (ag_wh t (F c))) (fun c hc y => ?_) (fun c d hc hd y y' e' => ?_)
            · obtain ⟨g1, g2⟩ := hF c y
              refine ⟨(hq _ (wok _ g1).2.1).2, ⟨F c, g1, rfl⟩, ?_⟩
              have := hfin (F c) g1
              rw [g2] at this
              exact this
            · obtain ⟨g1, g2⟩ := hF c y
              obtain ⟨g1', g2'⟩ := hF d y'
              rw [← g2, ← g2', qinj _ _ g1 g1' e']
        · exact h m (by omega)
  exact key
end
end
section
/-- places and goals are cells -/
def ag_PI (b c : Nat → Int32) : Prop := ∃ p q : Nat → Nat, (∀ w, w < 3 → b w = nI (p w) ∧ p w < 12) ∧ (∀ w, w < 3 → c w = nI (q w) ∧ q w < 12)
theorem ag_PI_u {b c : Nat → Int32} (h : ag_PI b c) {k x y : Nat} (hx : x < 12) (hy : y < 12) : ag_PI (upd b k (nI x)) (upd c k (nI y)) := by
  obtain ⟨p, q, hp, hq⟩ := h
  refine ⟨fun w => if w = k then x else p w, fun w => if w = k then y else q w, fun w hw => ?_, fun w hw => ?_⟩
  · try dsimp only
    by_cases e : w = k
    · rw [e, pk_us, if_pos rfl]; exact ⟨rfl, hx⟩
    · rw [pk_un e, if_neg e]; exact hp w hw
  · try dsimp only
    by_cases e : w = k
    · rw [e, pk_us, if_pos rfl]; exact ⟨rfl, hy⟩
    · rw [pk_un e, if_neg e]; exact hq w hw
theorem ag_cell {P : Int32 → Prop} {x : Int32} (H1 : (∃ c, c < 12 ∧ x = nI c) → P 1) (H0 : P 0) : wpX_isCell P () x := by
  refine br_c (fun _ => H0) (fun h1 => br_c (fun _ => H0) (fun h2 => H1 ?_))
  obtain ⟨j, hj, e⟩ := nI_of h1
  rw [e] at h2
  rcases Nat.lt_or_ge j 12 with z | z
  · exact ⟨j, z, e⟩
  · exact absurd (nI_le (a := 12) z hj) h2
section
variable {wl pd ct ef be pf ps tn : Int32} {a1 a2 a3 a4 a5 a6 a7 a8 a9 a10 a11 a12 a13 a14 a15 a16 a17 a18 a19 a20 a21 : Nat → Int32}
theorem ag_turnRound {post : Int32 → St1 → Prop} (pi : ag_PI a2 a3) {x : Int32} (H : ∀ r b2 b3, ag_PI b2 b3 → post r (wl, pd, ct, ef, be, pf, ps, tn, a1, b2, b3, a4, a5, a6, a7, a8, a9, a10, a11, a12, a13, a14, a15, a16, a17, a18, a19, a20, a21)) : wpX_turnRound post (wl, pd, ct, ef, be, pf, ps, tn, a1, a2, a3, a4, a5, a6, a7, a8, a9, a10, a11, a12, a13, a14, a15, a16, a17, a18, a19, a20, a21) x := by
  unfold wpX_turnRound
  dsimp only
  refine ag_isReady (fun h => ?_) (fun _ => br_t rfl (H _ _ _ pi))
  refine br_f (by decide) ?_
  refine pk_loop (fun (n i : Nat) (s : Int32 × (Nat → Int32) × (Nat → Int32)) => wX_turnRound_14 post x wl pd ct ef be pf ps tn n s.1 (nI i) a1 s.2.1 s.2.2 a4 a5 a6 a7 a8 a9 a10 a11 a12 a13 a14 a15 a16 a17 a18 a19 a20 a21) (fun i s => ag_PI s.2.1 s.2.2) 3 0 (0, a2, a3) (by omega) pi ?_ ?_
  · rintro n ⟨r, b2, b3⟩ g
    exact pk_le 3 3 (fun _ => H r b2 b3 g) (fun z => absurd z (by omega))
  · rintro n i ⟨r, b2, b3⟩ hi g hw
    dsimp only at g hw ⊢
    refine pk_le 3 i (fun z => absurd z (by omega)) (fun _ => br_c (fun y => ?_) (fun y => nm_r (nI_1 i) (hw (r, b2, b3) g)))
    obtain ⟨p, q, hp, hq⟩ := g
    refine ⟨pk_in i 3 hi, nm_r (e' := nI (p i)) (by rw [nI_clamp (by omega)]; exact (hp i hi).1) ⟨pk_in i 3 hi, pk_in i 3 hi, nm_r (e' := upd b2 i (nI (q i))) (by rw [nI_clamp (by omega), (hq i hi).1]) ⟨pk_in i 3 hi, nm_r (e' := upd b3 i (nI (p i))) (by rw [nI_clamp (by omega)]) (nm_e (nm_r (nI_1 i) (hw (r + 1, upd b2 i (nI (q i)), upd b3 i (nI (p i))) (ag_PI_u ⟨p, q, hp, hq⟩ (hq i hi).2 (hp i hi).2))))⟩⟩⟩
theorem ag_call {post : Int32 → St1 → Prop} (pi : ag_PI a2 a3) {x1 x2 x3 x4 : Int32} (H : ∀ r w d b1 b2 b3, ag_PI b2 b3 → post r (w, d, ct, ef, be, pf, ps, tn, b1, b2, b3, a4, a5, a6, a7, a8, a9, a10, a11, a12, a13, a14, a15, a16, a17, a18, a19, a20, a21)) : wpL_call post (wl, pd, ct, ef, be, pf, ps, tn, a1, a2, a3, a4, a5, a6, a7, a8, a9, a10, a11, a12, a13, a14, a15, a16, a17, a18, a19, a20, a21) x1 x2 x3 x4 := by
  unfold wpL_call
  dsimp only
  refine br_c (fun _ => br_c (fun _ => br_c (fun _ => ?_) (fun _ => ?_)) (fun _ => ?_)) (fun _ => ?_)
  · exact ag_turnRound pi (fun r b2 b3 g => H r _ _ _ b2 b3 g)
  · unfold wpX_ways
    dsimp only
    refine ag_cell (fun hc => br_f (by decide) ?_) (br_t rfl (H _ _ _ _ _ _ pi))
    obtain ⟨c, hc, e⟩ := hc
    exact br_c (fun _ => H _ _ _ _ _ _ pi) (fun _ => br_c (fun _ => ⟨pk_in c 12 hc e, nm_e ⟨pk_in c 12 hc e, nm_e (H _ _ _ _ _ _ pi)⟩⟩) (fun _ => H _ _ _ _ _ _ pi))
  · unfold wpX_wall
    dsimp only
    exact ag_cell (fun hc => br_f (by decide) (nm_e (H _ _ _ _ _ _ pi))) (br_t rfl (H _ _ _ _ _ _ pi))
  · unfold wpX_set
    dsimp only
    refine br_c (fun _ => H _ _ _ _ _ _ pi) (fun y0 => br_c (fun y3 => ?_) (fun _ => H _ _ _ _ _ _ pi))
    obtain ⟨j, hj, e⟩ := nI_of y0
    have j3 : j < 3 := by
      rw [e] at y3
      exact (nI_ltI (a := j) (b := 3) hj (by omega)).mp y3
    subst e
    refine ag_cell (fun hc => br_f (by decide) ?_) (br_t rfl (H _ _ _ _ _ _ pi))
    obtain ⟨c, hc, ec⟩ := hc
    refine ag_cell (fun hd => br_f (by decide) ?_) (br_t rfl (H _ _ _ _ _ _ pi))
    obtain ⟨d, hd, ed⟩ := hd
    refine nm_e ⟨pk_in j 3 j3, nm_r (e' := upd a2 j (nI c)) (by rw [nI_clamp (by omega), ec]) ⟨pk_in j 3 j3, nm_r (e' := upd a3 j (nI d)) (by rw [nI_clamp (by omega), ed]) (H _ _ _ _ _ _ (ag_PI_u pi hc hd))⟩⟩
theorem ag_fits0 {post : Int32 → St1 → Prop} {x y z : Int32} (hn : ¬ ag_rdy wl pd x a2 a3) (H : post 1 (wl, pd, ct, ef, be, pf, ps, tn, a1, a2, a3, a4, a5, a6, a7, a8, a9, a10, a11, a12, a13, a14, a15, a16, a17, a18, a19, a20, a21)) : wpL_fits post (wl, pd, ct, ef, be, pf, ps, tn, a1, a2, a3, a4, a5, a6, a7, a8, a9, a10, a11, a12, a13, a14, a15, a16, a17, a18, a19, a20, a21) x y z := by
  have h48 : wL_fits_48 post x (-1) (-1) (-1) (-1) (-1) wl pd ct ef be pf ps tn a1 a2 a3 a4 a5 a6 a7 a8 a9 a10 a11 a12 a13 a14 a15 a16 a17 a18 a19 a20 a21 := by
    unfold wL_fits_48
    refine br_t rfl (br_t rfl (br_t rfl (br_t rfl (br_t rfl ?_))))
    refine (ag_not hn ?_).2.2.2.2.2.1
    refine br_t rfl ?_
    refine (ag_not hn ?_).2.2.2.2.2.2
    exact br_t rfl H
  unfold wpL_fits
  dsimp only
  refine (ag_not hn ?_).1
  dsimp only
  refine (ag_not hn ?_).2.1
  dsimp only
  refine (ag_not hn ?_).2.2.1
  dsimp only
  refine (ag_not hn ?_).2.2.2.1
  dsimp only
  refine (ag_not hn ?_).2.2.2.2.1 y z
  dsimp only
  refine br_c (fun _ => h48) (fun _ => br_c (fun _ => br_t rfl (br_t rfl (br_t rfl (br_t rfl (br_t rfl ?_))))) (fun _ => h48))
  refine (ag_not hn ?_).2.2.2.2.2.1
  exact br_t rfl H
end
/-- walls aren't stepped on -/
theorem ag_open {w : Int32} {ways : Nat → Int32} : ∀ {n a b}, a < 12 → ag_opn w a → gq_wk (fun x y => y = x ∨ ag_E (ag_tab w ways) x y) n a b → ag_opn w b := by
  intro n
  induction n with
  | zero =>
    intro a b _ h hw
    have hw' : a = b := hw
    rw [← hw']
    exact h
  | succ n ih =>
    intro a b ha h hw
    obtain ⟨d, h1, h2⟩ := hw
    rcases h1 with e | e
    · rw [e] at h2
      exact ih ha h h2
    · exact ih e.1 (ag_tab_opn ha e).2 h2
theorem ag_size : ∀ t, t < 8 → ((nI t &&& 1) + ((nI t >>> ((1 : Int32) &&& 31)) &&& 1)) + ((nI t >>> ((2 : Int32) &&& 31)) &&& 1) = nI (ag_kc t 3) := by decide +kernel
theorem ag_neg2 : ¬ (-2 : Int32) < -2 ∧ ¬ (0 : Int32) ≤ -2 ∧ (-2 : Int32) < 0 := by decide
theorem ag_nn {n : Nat} (h : n < 2 ^ 31) : ¬ nI n < -2 ∧ (0 : Int32) ≤ nI n ∧ ¬ nI n < 0 :=
  ⟨fun z => nI_pos h (Int32.lt_trans z (by decide)), nI_pos' h, nI_pos h⟩
end
section
section
variable {wl pd ct ef be pf ps tn : Int32} {a1 a2 a3 a4 a5 a6 a7 a8 a9 a10 a11 a12 a13 a14 a15 a16 a17 a18 a19 a20 a21 : Nat → Int32}
theorem ag_fits279 {post : Int32 → St1 → Prop} {t : Nat} (hr : ag_rdy wl pd (nI t) a2 a3) (ht : t < 8) (ht1 : 1 ≤ t) {p q : Nat → Nat} (hp : ∀ w, w < 3 → a2 w = nI (p w) ∧ p w < 12) (hq : ∀ w, w < 3 → a3 w = nI (q w) ∧ q w < 12) (hd : ∀ i j, i < j → j < 3 → ag_bt t i → ag_bt t j → p i ≠ p j ∧ q i ≠ q j) (ho : ∀ i, i < 3 → ag_bt t i → ag_opn wl (p i) ∧ ag_opn wl (q i))
    {s0 go : Nat} (s0d : ag_dif (ag_kc t 3) s0) (gol : go < ag_bd (ag_kc t 3)) (s0c : ∀ i, i < ag_kc t 3 → ag_ce s0 i = p (ag_wh t i)) (goc : ∀ i, i < ag_kc t 3 → ag_ce go i = q (ag_wh t i)) {y z f s c : Int32} {n M : Nat} (n1 : 1 ≤ n) (nM : n ≤ M) (Ml : M < 2000)
    (hf : (f = -2 ∧ ∀ m, ¬ gq_wk (ag_JJ (ag_tab wl a1) (ag_kc t 3)) m s0 go) ∨ ∃ F, f = nI F ∧ F < n ∧ gq_wk (ag_JJ (ag_tab wl a1) (ag_kc t 3)) F s0 go ∧ ∀ m, gq_wk (ag_JJ (ag_tab wl a1) (ag_kc t 3)) m s0 go → F ≤ m) (hs : s < nI n)
    (hc : ag_CS (ag_tab wl a1) t p q s0 go y z c) (H : ∀ (ctx efx bex pfx psx tnx : Int32) (a4x a5x a6x a7x a8x a9x a10x a11x a12x a13x a14x a15x a16x a17x a18x a19x a20x a21x : Nat → Int32), post 1 (wl, pd, ctx, efx, bex, pfx, psx, tnx, a1, a2, a3, a4x, a5x, a6x, a7x, a8x, a9x, a10x, a11x, a12x, a13x, a14x, a15x, a16x, a17x, a18x, a19x, a20x, a21x)) : wL_fits_279 post (nI t) y z f s (nI n) c (nI M) wl pd ct ef be pf ps tn a1 a2 a3 a4 a5 a6 a7 a8 a9 a10 a11 a12 a13 a14 a15 a16 a17 a18 a19 a20 a21 := by
  have hnf : ¬ nI n ≤ f := by
    rcases hf with ⟨e, _⟩ | ⟨F, e, l, _⟩
    · rw [e]
      exact fun w => (ag_nn (n := n) (by omega)).2.2 (Int32.lt_of_le_of_lt w (by decide))
    · rw [e]
      exact nI_ge l (by omega)
  unfold wL_fits_279
  refine br_f (nI_nlt (b := 1) n1 (by omega)) (br_f (nI_nlt nM (by omega)) (br_f hnf (br_t hs ?_)))
  rcases hf with ⟨e, hno⟩ | ⟨F, e, l, wF, mF⟩
  · subst e
    rcases hc with ⟨ec, _⟩ | ⟨f', w', _⟩
    · exact br_f (by decide) (br_t ec (H _ _ _ _ _ _ _ _ _ _ _ _ _ _ _ _ _ _ _ _ _ _ _ _))
    · exact absurd w' (hno f')
  · subst e
    rcases hc with ⟨_, hno⟩ | ⟨f', w', m', hc⟩
    · exact absurd wF (hno F)
    · have ef : f' = F := by
        have h1 := mF f' w'
        have h2 := m' F wF
        omega
      subst ef
      refine br_t (nI_pos' (by omega)) ?_
      rcases hc with ⟨ec, hy⟩ | ⟨w, hw, ey, hb, hc⟩
      · have h3 : wL_fits_343 post c wl pd ct ef be pf ps tn a1 a2 a3 a4 a5 a6 a7 a8 a9 a10 a11 a12 a13 a14 a15 a16 a17 a18 a19 a20 a21 := br_t ec (H _ _ _ _ _ _ _ _ _ _ _ _ _ _ _ _ _ _ _ _ _ _ _ _)
        refine br_c (fun _ => h3) (fun y0 => br_c (fun _ => h3) (fun y2 => br_t ?_ h3))
        obtain ⟨j, hj, ej⟩ := nI_of y0
        have j3 : j < 3 := by
          rcases Nat.lt_or_ge j 3 with v | v
          · exact v
          · rw [ej] at y2
            exact absurd (nI_lt (a := 2) (b := j) (by omega) hj) y2
        rw [ej]
        exact (ag_bit0 t ht j j3).mpr (fun v => hy ⟨j, j3, ej, v⟩)
      · subst ey
        refine br_f (nI_pos (by omega)) (br_f (nI_nlt (a := 2) (b := w) (by omega) (by omega)) (br_f (fun v => (ag_bit0 t ht w hw).mp v hb) ?_))
        rcases hc with ⟨ec, hz⟩ | ⟨m, c0, mf, ez, c0l, ec, wl1, wl2⟩
        · have h4 : wL_fits_366 post c wl pd ct ef be pf ps tn a1 a2 a3 a4 a5 a6 a7 a8 a9 a10 a11 a12 a13 a14 a15 a16 a17 a18 a19 a20 a21 := br_t ec (H _ _ _ _ _ _ _ _ _ _ _ _ _ _ _ _ _ _ _ _ _ _ _ _)
          refine br_c (fun _ => h4) (fun z0 => br_f (fun zf => ?_) h4)
          obtain ⟨j, hj, ej⟩ := nI_of z0
          rw [ej] at zf
          exact hz ⟨j, (nI_leI hj (by omega)).mp zf, ej⟩
        · subst ez
          subst ec
          refine br_f (nI_pos (by omega)) (br_t (nI_le mf (by omega)) ?_)
          have pl := (hp w hw).2
          have ql := (hq w hw).2
          have d1 := ag_dd_lazy wl1
          have d2 := ag_dd_lazy wl2
          obtain ⟨k1, k2⟩ := ag_wh_kc t ht w hw hb
          have d3 := ag_walk_dd (ag_JJ_wkC wF) k2
          rw [s0c _ k2, goc _ k2, k1] at d3
          have oc : ag_opn wl c0 := ag_open pl (ho w hw hb).1 wl1
          refine ag_cellAt hr ht ht1 hp hq hd s0d gol s0c goc (nI w) (nI f') (fun r1 ctx efx bex pfx psx tnx a4x a5x a6x a7x a8x a9x a10x a11x a12x a13x a14x a15x a16x a17x a18x a19x a20x a21x c1 => ?_)
          dsimp only
          have e1 : r1 = nI (q w) := by
            rcases c1 with ⟨_, hno⟩ | ⟨f2, w2, m2, c1⟩
            · exact absurd wF (hno f')
            · have ef : f2 = f' := by
                have h1 := mF f2 w2
                have h2 := m2 f' wF
                omega
              subst ef
              rcases c1 with ⟨_, hy⟩ | ⟨v, hv, ev, hb', c1⟩
              · exact absurd ⟨w, hw, rfl, hb⟩ hy
              · have : v = w := ((nI_eq (by omega) (by omega)).mp ev).symm
                subst this
                rcases c1 with ⟨_, hz⟩ | ⟨j, c2, j1, ej, _, er, _, wq⟩
                · exact absurd ⟨f2, Nat.le_refl _, rfl⟩ hz
                · have : j = f2 := ((nI_eq (by omega) (by omega)).mp ej).symm
                  subst this
                  rw [Nat.sub_self] at wq
                  rw [er, show c2 = q v from wq]
          subst e1
          refine ag_cellAt hr ht ht1 hp hq hd s0d gol s0c goc (nI w) 0 (fun r2 cty efy bey pfy psy tny a4y a5y a6y a7y a8y a9y a10y a11y a12y a13y a14y a15y a16y a17y a18y a19y a20y a21y c1 => ?_)
          dsimp only
          have e2 : r2 = nI (p w) := by
            rcases c1 with ⟨_, hno⟩ | ⟨f2, w2, m2, cA⟩
            · exact absurd wF (hno f')
            · rcases cA with ⟨_, hy⟩ | ⟨v, hv, ev, hb', cB⟩
              · exact absurd ⟨w, hw, rfl, hb⟩ hy
              · have : v = w := ((nI_eq (by omega) (by omega)).mp ev).symm
                subst this
                rcases cB with ⟨_, hz⟩ | ⟨j, c2, j1, ej, _, er, wp, _⟩
                · exact absurd ⟨0, Nat.zero_le _, rfl⟩ hz
                · have f2l := mF f2 w2
                  have f2l' := m2 f' wF
                  have : j = 0 := ((nI_eq (a := 0) (b := j) (by omega) (by omega)).mp ej).symm
                  subst this
                  rw [er, show c2 = p v from Eq.symm wp]
          subst e2
          refine ag_distance (nI (p w)) (nI c0) (fun b4 b6 a b al bl ea eb _ _ => ?_) (fun hno => absurd ⟨p w, c0, pl, c0l, rfl, rfl, (ho w hw hb).1, oc⟩ hno)
          have ea' := (nI_eq (by omega) (by omega)).mp ea
          have eb' := (nI_eq (by omega) (by omega)).mp eb
          subst ea'
          subst eb'
          rw [if_neg (by omega)]
          dsimp only
          refine ag_distance (nI c0) (nI (q w)) (fun b4' b6' a b al' bl' ea eb _ _ => ?_) (fun hno => absurd ⟨c0, q w, c0l, ql, rfl, rfl, oc, (ho w hw hb).2⟩ hno)
          have ea' := (nI_eq (by omega) (by omega)).mp ea
          have eb' := (nI_eq (by omega) (by omega)).mp eb
          subst ea'
          subst eb'
          rw [if_neg (by omega)]
          dsimp only
          refine br_f (nI_pos (by omega)) (br_f (nI_ge (b := 12) c0l (by omega)) (br_f (nI_pos (by omega)) (br_f (nI_nlt d1 (by omega)) (br_f (nI_pos (by omega)) (br_f ?_ ?_)))))
          · rw [pk_sub mf]
            exact nI_nlt d2 (by omega)
          · refine ag_distance (nI (p w)) (nI (q w)) (fun b4'' b6'' a b al'' bl'' ea eb _ _ => ?_) (fun hno => absurd ⟨p w, q w, pl, ql, rfl, rfl, (ho w hw hb).1, (ho w hw hb).2⟩ hno)
            have ea' := (nI_eq (by omega) (by omega)).mp ea
            have eb' := (nI_eq (by omega) (by omega)).mp eb
            subst ea'
            subst eb'
            rw [if_neg (by omega)]
            dsimp only
            refine br_f (nI_nlt d3.1 (by omega)) ?_
            rw [nI_1]
            refine ag_cellAt hr ht ht1 hp hq hd s0d gol s0c goc (nI w) (nI (f' + 1)) (fun r3 ctu efu beu pfu psu tnu a4u a5u a6u a7u a8u a9u a10u a11u a12u a13u a14u a15u a16u a17u a18u a19u a20u a21u c1 => ?_)
            dsimp only
            refine br_t ?_ (H _ _ _ _ _ _ _ _ _ _ _ _ _ _ _ _ _ _ _ _ _ _ _ _)
            rcases c1 with ⟨_, hno⟩ | ⟨f2, w2, m2, c1⟩
            · exact absurd wF (hno f')
            · have ef : f2 = f' := by
                have h1 := mF f2 w2
                have h2 := m2 f' wF
                omega
              subst ef
              rcases c1 with ⟨_, hy⟩ | ⟨v, hv, ev, hb', c1⟩
              · exact absurd ⟨w, hw, rfl, hb⟩ hy
              · rcases c1 with ⟨er, _⟩ | ⟨j, c2, j1, ej, _⟩
                · exact er
                · have := (nI_eq (by omega) (by omega)).mp ej
                  omega
theorem ag_fits {post : Int32 → St1 → Prop} (pi : ag_PI a2 a3) {x y z : Int32} (H : ∀ (ctx efx bex pfx psx tnx : Int32) (a4x a5x a6x a7x a8x a9x a10x a11x a12x a13x a14x a15x a16x a17x a18x a19x a20x a21x : Nat → Int32), post 1 (wl, pd, ctx, efx, bex, pfx, psx, tnx, a1, a2, a3, a4x, a5x, a6x, a7x, a8x, a9x, a10x, a11x, a12x, a13x, a14x, a15x, a16x, a17x, a18x, a19x, a20x, a21x)) : wpL_fits post (wl, pd, ct, ef, be, pf, ps, tn, a1, a2, a3, a4, a5, a6, a7, a8, a9, a10, a11, a12, a13, a14, a15, a16, a17, a18, a19, a20, a21) x y z := by
  by_cases hr : ag_rdy wl pd x a2 a3
  rotate_left
  · exact ag_fits0 hr (H _ _ _ _ _ _ _ _ _ _ _ _ _ _ _ _ _ _ _ _ _ _ _ _)
  obtain ⟨p, q, hp, hq⟩ := pi
  obtain ⟨t, ex, ht, ht1, hd, ho⟩ := ag_rdy_ok hp hq hr
  subst ex
  obtain ⟨hk, hk1', _⟩ := ag_kc_3 t ht
  have hk1 := hk1' ht1
  have wok : ∀ i, i < ag_kc t 3 → ag_bt t (ag_wh t i) ∧ ag_wh t i < 3 ∧ ag_kc t (ag_wh t i) = i := fun i hi => ag_wh_ok t ht i (by omega) hi
  obtain ⟨s0, s0l, s0c⟩ := ag_enc (fun i => p (ag_wh t i)) (ag_kc t 3) hk (fun i hi => (hp _ (wok i hi).2.1).2)
  obtain ⟨go, gol, goc⟩ := ag_enc (fun i => q (ag_wh t i)) (ag_kc t 3) hk (fun i hi => (hq _ (wok i hi).2.1).2)
  have s0d : ag_dif (ag_kc t 3) s0 := ⟨s0l, fun i j hij hj => by
    rw [s0c i (by omega), s0c j hj]
    exact (hd _ _ (ag_wh_mono t ht i (by omega) j (by omega) hij hj) (wok j hj).2.1 (wok i (by omega)).1 (wok j hj).1).1⟩
  unfold wpL_fits
  dsimp only
  refine ag_fastest hr ht ht1 hp hq hd s0l gol s0c goc (fun f ctu efu beu pfu psu tnu a4u a5u a6u a7u a8u a9u a10u a11u a12u a13u a14u a15u a16u a17u a18u a19u a20u a21u hF => ?_)
  dsimp only
  refine ag_easiest hr ht ht1 hp hq hd s0l gol s0c goc (fun e ctv efv bev pfv psv tnv a4v a5v a6v a7v a8v a9v a10v a11v a12v a13v a14v a15v a16v a17v a18v a19v a20v a21v hE => ?_)
  dsimp only
  refine ag_swarm hr ht ht1 hp hq hd s0d s0c (fun s ctw efw bew pfw psw tnw a4w a5w a6w a7w a8w a9w a10w a11w a12w a13w a14w a15w a16w a17w a18w a19w a20w a21w hS => ?_)
  dsimp only
  refine ag_arrangements hr ht ht1 hp s0d s0c (fun n ctm efm bem pfm psm tnm a4m a5m a6m a7m a8m a9m a10m a11m a12m a13m a14m a15m a16m a17m a18m a19m a20m a21m nl hN => ?_)
  dsimp only
  refine ag_cellAt hr ht ht1 hp hq hd s0d gol s0c goc y z (fun c ctn efn ben pfn psn tnn a4n a5n a6n a7n a8n a9n a10n a11n a12n a13n a14n a15n a16n a17n a18n a19n a20n a21n hC => ?_)
  dsimp only
  refine br_f (nI_nlt (b := 1) ht1 (by omega)) (br_t (nI_le (b := 7) (by omega) (by omega)) ?_)
  have n1 := ag_SN_1 hN
  have nM := ag_SN_le hk1 hk hN
  have Ml : ag_most (ag_kc t 3) < 2000 := by
    unfold ag_most
    by_cases c1 : ag_kc t 3 = 1
    · rw [if_pos c1]; omega
    · rw [if_neg c1]
      by_cases c2 : ag_kc t 3 = 2
      · rw [if_pos c2]; omega
      · rw [if_neg c2]; omega
  -- s is less than n
  have AP : ∀ {m b}, gq_wk (ag_JJ (ag_tab wl a1) (ag_kc t 3)) m s0 b → ag_GP (ag_kc t 3) (fun i => q (ag_wh t i)) b → ∃ b, ag_GP (ag_kc t 3) (fun i => q (ag_wh t i)) b ∧ gq_wk (ag_JC (ag_tab wl a1) (ag_kc t 3)) m s0 b := fun h g => ⟨_, g, ag_JJ_wkC h⟩
  have goGP : ag_GP (ag_kc t 3) (fun i => q (ag_wh t i)) go := fun i hi => ⟨i, hi, (goc i hi).symm⟩
  have sN : ∀ σ, (∃ b, ag_GP (ag_kc t 3) (fun i => q (ag_wh t i)) b ∧ gq_wk (ag_JC (ag_tab wl a1) (ag_kc t 3)) σ s0 b) → (∀ m, m < σ → ¬ ∃ b, ag_GP (ag_kc t 3) (fun i => q (ag_wh t i)) b ∧ gq_wk (ag_JC (ag_tab wl a1) (ag_kc t 3)) m s0 b) → σ < n := by
    rintro σ ⟨b, b1, b2⟩ hm
    obtain ⟨m, m1, m2⟩ := ag_JC_wk hk s0l b2
    have em : m = σ := by
      rcases Nat.lt_or_ge m σ with v | v
      · exact absurd (AP m2 b1) (hm m v)
      · omega
    subst em
    exact ag_SN_lt hN (G := fun b => ag_GP (ag_kc t 3) (fun i => q (ag_wh t i)) b) ⟨b, b1, m2⟩ (fun m' hm' ⟨b', g1, g2⟩ => hm m' hm' (AP g2 g1))
  -- nobody moves, and there is one walker: the goal is reached
  have zero : ∀ {b}, ag_GP (ag_kc t 3) (fun i => q (ag_wh t i)) b → gq_wk (ag_JC (ag_tab wl a1) (ag_kc t 3)) 0 s0 b → ag_kc t 3 = 1 → gq_wk (ag_JJ (ag_tab wl a1) (ag_kc t 3)) 0 s0 go := by
    intro b g hw k1
    have hw' : s0 = b := hw
    subst hw'
    show s0 = go
    refine ag_ce_ext hk s0l gol (fun i hi => ?_)
    obtain ⟨j, hj, ej⟩ := g i hi
    have : j = i := by omega
    rw [← ej, this, goc i hi]
  have main : wL_fits_190 post (nI t) y z f e s (nI n) c (nI (ag_kc t 3)) (nI (ag_most (ag_kc t 3))) wl pd ctn efn ben pfn psn tnn a1 a2 a3 a4n a5n a6n a7n a8n a9n a10n a11n a12n a13n a14n a15n a16n a17n a18n a19n a20n a21n := by
    unfold wL_fits_190
    rcases hF with ⟨ef, hno⟩ | ⟨F, ef, _, _, hF0, _⟩
    · subst ef
      have ee : e = -2 := by
        rcases hE with ⟨ee, _⟩ | ⟨_, _, _, ⟨m, hm⟩, _⟩
        · exact ee
        · exact absurd hm (hno m)
      subst ee
      have hs : ¬ s < -2 ∧ s < nI n ∧ (s = 0 → ag_kc t 3 = 1 → False) := by
        rcases hS with ⟨es, _⟩ | ⟨σ, es, σl, σ1, σ2⟩
        · subst es
          refine ⟨by decide, Int32.lt_of_lt_of_le (b := 0) (by decide) (nI_pos' (by omega)), fun z0 => absurd z0 (by decide)⟩
        · subst es
          refine ⟨(ag_nn (by omega)).1, nI_lt (sN σ σ1 σ2) (by omega), fun z0 k1 => ?_⟩
          have : σ = 0 := (nI_eq (a := σ) (b := 0) (by omega) (by omega)).mp z0
          subst this
          obtain ⟨b, b1, b2⟩ := σ1
          exact hno 0 (zero b1 b2 k1)
      have fin : wL_fits_279 post (nI t) y z (-2) s (nI n) c (nI (ag_most (ag_kc t 3))) wl pd ctn efn ben pfn psn tnn a1 a2 a3 a4n a5n a6n a7n a8n a9n a10n a11n a12n a13n a14n a15n a16n a17n a18n a19n a20n a21n := ag_fits279 hr ht ht1 hp hq hd ho s0d gol s0c goc n1 nM Ml (Or.inl ⟨rfl, hno⟩) hs.2.1 hC H
      refine br_f (by decide) (br_f (by decide) (br_f hs.1 (br_f (by decide) (br_f (by decide) (br_t rfl (br_t (by decide) ?_))))))
      refine br_c (fun z0 => ?_) (fun _ => fin)
      refine pk_eq (ag_kc t 3) 1 (fun k1 => absurd k1 (fun k1 => hs.2.2 z0 k1)) (fun _ => fin) rfl rfl (by omega) (by omega)
    · subst ef
      obtain ⟨wF, mF⟩ := hF0 rfl
      have Fn : F < n := ag_SN_lt hN (G := fun b => b = go) ⟨go, rfl, wF⟩ (fun m hm ⟨b, eb, wb⟩ => by
        rw [eb] at wb
        have := mF m wb
        omega)
      have hE' : ∃ E, e = nI E ∧ E ≤ ag_kc t 3 * F := by
        rcases hE with ⟨_, hno⟩ | ⟨E, ee, _, _, _, hE1⟩
        · exact absurd wF (hno F)
        · exact ⟨E, ee, hE1 (by decide) F wF⟩
      obtain ⟨E, ee, El⟩ := hE'
      subst ee
      have kF : ag_kc t 3 * F ≤ 3 * F := Nat.mul_le_mul_right F hk
      have hS' : ∃ σ, s = nI σ ∧ σ ≤ F ∧ (σ = 0 → ag_kc t 3 = 1 → F = 0) := by
        rcases hS with ⟨_, hfin⟩ | ⟨σ, es, σl, σ1, σ2⟩
        · refine absurd (fun i hi => ?_) hfin
          have w := ag_proj hi (ag_JJ_wkC wF)
          rw [s0c i hi, goc i hi] at w
          obtain ⟨m, _, hm⟩ := gq_lazy w
          exact ⟨m, hm⟩
        · refine ⟨σ, es, ?_, fun z0 k1 => ?_⟩
          · rcases Nat.lt_or_ge F σ with v | v
            · exact absurd (AP wF goGP) (σ2 F v)
            · exact v
          · subst z0
            obtain ⟨b, b1, b2⟩ := σ1
            have := mF 0 (zero b1 b2 k1)
            omega
      obtain ⟨σ, es, σF, σ0⟩ := hS'
      subst es
      have fin : wL_fits_279 post (nI t) y z (nI F) (nI σ) (nI n) c (nI (ag_most (ag_kc t 3))) wl pd ctn efn ben pfn psn tnn a1 a2 a3 a4n a5n a6n a7n a8n a9n a10n a11n a12n a13n a14n a15n a16n a17n a18n a19n a20n a21n := ag_fits279 hr ht ht1 hp hq hd ho s0d gol s0c goc n1 nM Ml (Or.inr ⟨F, rfl, Fn, wF, mF⟩) (nI_lt (by omega) (by omega)) hC H
      refine br_f (ag_nn (by omega)).1 (br_f (ag_nn (by omega)).1 (br_f (ag_nn (by omega)).1 (br_t (nI_pos' (by omega)) (br_t (nI_pos' (by omega)) (br_t rfl (br_f (nI_pos (by omega)) (br_f (nI_pos (by omega)) (br_f (nI_nlt σF (by omega)) (br_f ?_ ?_)))))))))
      · rw [pk_mul]
        exact nI_nlt El (by omega)
      · refine pk_eq σ 0 (fun z0 => pk_eq (ag_kc t 3) 1 (fun k1 => pk_eq F 0 (fun _ => fin) (fun z => absurd (σ0 z0 k1) z)) (fun _ => fin)) (fun _ => fin)
  have n1' : ¬ f = -1 := by
    rcases hF with ⟨ef, _⟩ | ⟨F, ef, Fl, _⟩
    · rw [ef]; decide
    · rw [ef]; exact ag_neg1 (by omega)
  refine br_f n1' (nm_r (ag_size t ht) ?_)
  have k3 : ag_kc t 3 = 1 ∨ ag_kc t 3 = 2 ∨ ag_kc t 3 = 3 := by omega
  rcases k3 with k | k | k <;> rw [k] at main ⊢
  · exact br_t rfl main
  · exact br_f (by decide) (br_t rfl main)
  · exact br_f (by decide) (br_f (by decide) main)
end
end
section
section
variable {wl pd ct ef be pf ps tn : Int32} {a1 a2 a3 a4 a5 a6 a7 a8 a9 a10 a11 a12 a13 a14 a15 a16 a17 a18 a19 a20 a21 : Nat → Int32}
theorem ag_law134 {post : Int32 → Prop} {L : Nat} {xs : Nat → Int32} {J : Int32 → Int32 → Int32 → Int32 → Int32 → Int32 → Int32 → Int32 → Int32 → (Nat → Int32) → (Nat → Int32) → (Nat → Int32) → (Nat → Int32) → (Nat → Int32) → (Nat → Int32) → (Nat → Int32) → (Nat → Int32) → (Nat → Int32) → (Nat → Int32) → (Nat → Int32) → (Nat → Int32) → (Nat → Int32) → (Nat → Int32) → (Nat → Int32) → (Nat → Int32) → (Nat → Int32) → (Nat → Int32) → (Nat → Int32) → (Nat → Int32) → (Nat → Int32) → Prop} {x2 x4 x5 : Int32} {kc ks : Nat} (H : ∀ (ctx efx bex pfx psx tnx : Int32) (a4x a5x a6x a7x a8x a9x a10x a11x a12x a13x a14x a15x a16x a17x a18x a19x a20x a21x : Nat → Int32), J (x2 + 4) wl pd ctx efx bex pfx psx tnx a1 a2 a3 a4x a5x a6x a7x a8x a9x a10x a11x a12x a13x a14x a15x a16x a17x a18x a19x a20x a21x) : wL_law_134 post L xs J x2 x4 x5 kc ks wl pd ct ef be pf ps tn a1 a2 a3 a4 a5 a6 a7 a8 a9 a10 a11 a12 a13 a14 a15 a16 a17 a18 a19 a20 a21 := by
  have h189 : ∀ {r : Int32} (ctx efx bex pfx psx tnx : Int32) (a4x a5x a6x a7x a8x a9x a10x a11x a12x a13x a14x a15x a16x a17x a18x a19x a20x a21x : Nat → Int32), (r = 0 → x4 = x5) → wL_law_189 post L xs J x2 x4 x5 r kc ks wl pd ctx efx bex pfx psx tnx a1 a2 a3 a4x a5x a6x a7x a8x a9x a10x a11x a12x a13x a14x a15x a16x a17x a18x a19x a20x a21x := by
    intro r ctx efx bex pfx psx tnx a4x a5x a6x a7x a8x a9x a10x a11x a12x a13x a14x a15x a16x a17x a18x a19x a20x a21x h
    exact br_c (fun e => br_t (h e) (nm_e (H _ _ _ _ _ _ _ _ _ _ _ _ _ _ _ _ _ _ _ _ _ _ _ _))) (fun _ => nm_e (H _ _ _ _ _ _ _ _ _ _ _ _ _ _ _ _ _ _ _ _ _ _ _ _))
  unfold wL_law_134
  refine ag_distance x4 x5 (fun b4 b6 c d cl dl ec ed oc od => ?_) (fun hno => ?_)
  · dsimp only
    have dl' := ag_dd_cases (T := ag_tab wl a1) (g := d) cl
    refine ag_distance x4 x4 (fun b4' b6' c' d' cl' dl'' ec' ed' oc' od' => ?_) (fun hno => absurd ⟨c, c, cl, cl, ec, ec, oc, oc⟩ hno)
    dsimp only
    have e1 : c' = c := by
      rw [ec] at ec'
      exact ((nI_eq (by omega) (by omega)).mp ec').symm
    have e2 : d' = c := by
      rw [ec] at ed'
      exact ((nI_eq (by omega) (by omega)).mp ed').symm
    have e0 : (if (0 : Nat) = 1000000 then (-2 : Int32) else nI 0) = 0 := rfl
    rw [e1, e2, ag_dd_self, e0]
    rcases dl' with z | z
    · have dn : ag_dd (ag_tab wl a1) d c ≠ 1000000 := by omega
      rw [if_neg dn]
      refine br_f (ag_nn (by omega)).1 (br_f (nI_nlt (a := 11) (by omega) (by omega)) (br_t rfl ?_))
      refine br_f (nI_pos (by omega)) (br_t rfl (h189 _ _ _ _ _ _ _ _ _ _ _ _ _ _ _ _ _ _ _ _ _ _ _ _ (fun e => ?_)))
      have := (nI_eq (a := ag_dd (ag_tab wl a1) d c) (b := 0) (by omega) (by omega)).mp e
      rw [ec, ed, ag_dd_0 cl this]
    · rw [if_pos z.1]
      refine br_f (by decide) (br_f (by decide) (br_t rfl ?_))
      exact br_t (by decide) (h189 _ _ _ _ _ _ _ _ _ _ _ _ _ _ _ _ _ _ _ _ _ _ _ _ (fun e => absurd e (by decide)))
  · dsimp only
    have fin : ∀ {y : Int32} (ctx efx bex pfx psx tnx : Int32) (a4x a5x a6x a7x a8x a9x a10x a11x a12x a13x a14x a15x a16x a17x a18x a19x a20x a21x : Nat → Int32), wL_law_179 post L xs J x2 x4 x5 (-1) y kc ks wl pd ctx efx bex pfx psx tnx a1 a2 a3 a4x a5x a6x a7x a8x a9x a10x a11x a12x a13x a14x a15x a16x a17x a18x a19x a20x a21x := by
      intro y ctx efx bex pfx psx tnx a4x a5x a6x a7x a8x a9x a10x a11x a12x a13x a14x a15x a16x a17x a18x a19x a20x a21x
      exact br_t (by decide) (h189 _ _ _ _ _ _ _ _ _ _ _ _ _ _ _ _ _ _ _ _ _ _ _ _ (fun e => absurd e (by decide)))
    refine ag_distance x4 x4 (fun b4' b6' c' d' cl' dl'' ec' ed' oc' od' => ?_) (fun hno' => ?_)
    · dsimp only
      have e2 : d' = c' := by
        rw [ec'] at ed'
        exact ((nI_eq (by omega) (by omega)).mp ed').symm
      have e0 : (if (0 : Nat) = 1000000 then (-2 : Int32) else nI 0) = 0 := rfl
      rw [e2, ag_dd_self, e0]
      exact br_f (by decide) (br_f (by decide) (br_t rfl (fin _ _ _ _ _ _ _ _ _ _ _ _ _ _ _ _ _ _ _ _ _ _ _ _)))
    · dsimp only
      exact br_f (by decide) (br_f (by decide) (br_f (by decide) (br_t rfl (fin _ _ _ _ _ _ _ _ _ _ _ _ _ _ _ _ _ _ _ _ _ _ _ _))))
end
theorem i_vc (xs : Nat → Int32) (L : Nat) (hL : L ≤ 260) : wpL_law (fun r => r = 1) L xs := by
  refine ⟨21, 11037, by omega, by omega, ?_⟩
  unfold wpX_init
  dsimp only
  refine ⟨by omega, by omega, by omega, by omega, by omega, by omega, by omega, by omega, by omega, by omega, by omega, by omega, by omega, by omega, by omega, by omega, by omega, by omega, by omega, by omega, by omega, by omega, by omega, by omega, by omega, by omega, by omega, by omega, by omega, by omega, by omega, by omega, by omega, by omega, by omega, by omega, by omega, by omega, by omega, by omega, by omega, by omega, ?_⟩
  have step : ∀ (kc ks : Nat) (u : St1), ag_PI u.2.2.2.2.2.2.2.2.2.1 u.2.2.2.2.2.2.2.2.2.2.1 → ∃ n, (fun (n j : Nat) (u : St1) => match u with | (wl, pd, ct, ef, be, pf, ps, tn, a1, a2, a3, a4, a5, a6, a7, a8, a9, a10, a11, a12, a13, a14, a15, a16, a17, a18, a19, a20, a21) => wL_law_10 (fun r => r = 1) L xs kc ks n (nI (4 * j)) wl pd ct ef be pf ps tn a1 a2 a3 a4 a5 a6 a7 a8 a9 a10 a11 a12 a13 a14 a15 a16 a17 a18 a19 a20 a21) n 0 u := by
    intro kc ks u hu
    refine pk_loop (fun (n j : Nat) (u : St1) => match u with | (wl, pd, ct, ef, be, pf, ps, tn, a1, a2, a3, a4, a5, a6, a7, a8, a9, a10, a11, a12, a13, a14, a15, a16, a17, a18, a19, a20, a21) => wL_law_10 (fun r => r = 1) L xs kc ks n (nI (4 * j)) wl pd ct ef be pf ps tn a1 a2 a3 a4 a5 a6 a7 a8 a9 a10 a11 a12 a13 a14 a15 a16 a17 a18 a19 a20 a21) (fun _ u => ag_PI u.2.2.2.2.2.2.2.2.2.1 u.2.2.2.2.2.2.2.2.2.2.1) 16 0 u (by omega) hu ?_ ?_
    · rintro n ⟨wl, pd, ct, ef, be, pf, ps, tn, a1, a2, a3, a4, a5, a6, a7, a8, a9, a10, a11, a12, a13, a14, a15, a16, a17, a18, a19, a20, a21⟩ hpi
      dsimp only at hpi ⊢
      exact br_c (fun _ => rfl) (fun _ => br_t (by decide) rfl)
    · rintro n j ⟨wl, pd, ct, ef, be, pf, ps, tn, a1, a2, a3, a4, a5, a6, a7, a8, a9, a10, a11, a12, a13, a14, a15, a16, a17, a18, a19, a20, a21⟩ hj hpi hw
      dsimp only at hpi ⊢
      have e4 : nI (4 * j) + 4 = nI (4 * (j + 1)) := by
        rw [show (4 : Int32) = nI 4 from rfl, nI_add]
        exact congrArg nI (by omega)
      refine pk_lt L (4 * (j + 1)) (fun _ => rfl) (fun hl => ?_) rfl e4 (by omega) (by omega)
      refine pk_le 64 (4 * j) (fun z => absurd z (by omega)) (fun _ => ?_)
      refine ⟨pk_in (4 * j + 1) L (by omega) (nI_1 _), nm_e ⟨pk_in (4 * j + 2) L (by omega) (nI_add _ 2), nm_e ⟨pk_in (4 * j + 3) L (by omega) (nI_add _ 3), nm_e ⟨pk_in (4 * j) L (by omega), ?_⟩⟩⟩⟩
      refine ag_call hpi (fun r w d b1 b2 b3 hpi2 => ?_)
      dsimp only
      have hw' : ∀ (ctx efx bex pfx psx tnx : Int32) (a4x a5x a6x a7x a8x a9x a10x a11x a12x a13x a14x a15x a16x a17x a18x a19x a20x a21x : Nat → Int32), wL_law_10 (fun r => r = 1) L xs kc ks n (nI (4 * j) + 4) w d ctx efx bex pfx psx tnx b1 b2 b3 a4x a5x a6x a7x a8x a9x a10x a11x a12x a13x a14x a15x a16x a17x a18x a19x a20x a21x := by
        intro ctx efx bex pfx psx tnx a4x a5x a6x a7x a8x a9x a10x a11x a12x a13x a14x a15x a16x a17x a18x a19x a20x a21x
        rw [e4]
        exact hw (w, d, ctx, efx, bex, pfx, psx, tnx, b1, b2, b3, a4x, a5x, a6x, a7x, a8x, a9x, a10x, a11x, a12x, a13x, a14x, a15x, a16x, a17x, a18x, a19x, a20x, a21x) hpi2
      refine ag_fits hpi2 (fun ctx efx bex pfx psx tnx a4x a5x a6x a7x a8x a9x a10x a11x a12x a13x a14x a15x a16x a17x a18x a19x a20x a21x => ?_)
      dsimp only
      refine br_f (by decide) ⟨by decide, ?_⟩
      refine ag_fits hpi2 (fun cty efy bey pfy psy tny a4y a5y a6y a7y a8y a9y a10y a11y a12y a13y a14y a15y a16y a17y a18y a19y a20y a21y => ?_)
      dsimp only
      refine br_f (by decide) ⟨pk_in (4 * j) L (by omega), br_c (fun _ => ⟨by decide, by decide, ?_⟩) (fun _ => ?_)⟩
      · refine ag_fits hpi2 (fun ctz efz bez pfz psz tnz a4z a5z a6z a7z a8z a9z a10z a11z a12z a13z a14z a15z a16z a17z a18z a19z a20z a21z => ?_)
        dsimp only
        exact br_f (by decide) (ag_law134 hw')
      · exact ag_law134 hw'
  refine pk_loop (fun n i s => wX_init_177 _ 21 11037 21 11037 0 0 0 0 0 0 0 0 n (nI i) s (fun _ => 0) (fun _ => 0) (fun _ => 0) (fun _ => 0) (fun _ => 0) (fun _ => 0) (fun _ => 0) (fun _ => 0) (fun _ => 0) (fun _ => 0) (fun _ => 0) (fun _ => 0) (fun _ => 0) (fun _ => 0) (fun _ => 0) (fun _ => 0) (fun _ => 0) (fun _ => 0) (fun _ => 0) (fun _ => 0)) (fun _ _ => True) 12 0 (fun _ => 0) (by omega) trivial ?_ ?_
  · intro n s _
    refine pk_le 12 12 (fun _ => ?_) (fun z => absurd z (by omega))
    exact step (1 + 21) (29 + 11037) (0, 0, 0, 0, 0, 0, 0, 0, s, (fun _ => 0), (fun _ => 0), (fun _ => 0), (fun _ => 0), (fun _ => 0), (fun _ => 0), (fun _ => 0), (fun _ => 0), (fun _ => 0), (fun _ => 0), (fun _ => 0), (fun _ => 0), (fun _ => 0), (fun _ => 0), (fun _ => 0), (fun _ => 0), (fun _ => 0), (fun _ => 0), (fun _ => 0), (fun _ => 0)) ⟨fun _ => 0, fun _ => 0, fun w _ => ⟨rfl, Nat.zero_lt_succ 11⟩, fun w _ => ⟨rfl, Nat.zero_lt_succ 11⟩⟩
  · intro n i s hi _ hw
    exact pk_le 12 i (fun z => absurd z (by omega)) (fun _ => ⟨pk_in i 12 hi, nm_e (nm_r (nI_1 i) (hw _ trivial))⟩)
end
