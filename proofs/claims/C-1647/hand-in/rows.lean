section
/-! rows of kit/rows (pk_) that are used -/
theorem pk_us {f : Nat → Int32} {k : Nat} {x : Int32} : upd f k x k = x := if_pos rfl
theorem pk_un {f : Nat → Int32} {k j : Nat} {x : Int32} (h : j ≠ k) : upd f k x j = f j := if_neg h
theorem pk_mul (a b : Nat) : nI a * nI b = nI (a * b) := (Int32.ofNat_mul a b).symm
theorem pk_le {x y : Int32} {A B : Prop} (a b : Nat) (f : a ≤ b → A) (g : b < a → B) (hx : x = nI a := by rfl) (hy : y = nI b := by rfl) (ha : a < 2 ^ 31 := by omega) (hb : b < 2 ^ 31 := by omega) : (x ≤ y → A) ∧ (¬ x ≤ y → B) := by
  subst hx hy
  rw [nI_leI ha hb]
  exact ⟨f, fun z => g (by omega)⟩
theorem pk_lt {x y : Int32} {A B : Prop} (a b : Nat) (f : a < b → A) (g : b ≤ a → B) (hx : x = nI a := by rfl) (hy : y = nI b := by rfl) (ha : a < 2 ^ 31 := by omega) (hb : b < 2 ^ 31 := by omega) : (x < y → A) ∧ (¬ x < y → B) := by
  subst hx hy
  rw [nI_ltI ha hb]
  exact ⟨f, fun z => g (by omega)⟩
theorem pk_eq {x y : Int32} {A B : Prop} (a b : Nat) (f : a = b → A) (g : a ≠ b → B) (hx : x = nI a := by rfl) (hy : y = nI b := by rfl) (ha : a < 2 ^ 31 := by omega) (hb : b < 2 ^ 31 := by omega) : (x = y → A) ∧ (¬ x = y → B) := by
  subst hx hy
  rw [nI_eq ha hb]
  exact ⟨f, g⟩
/-! numbers -/
theorem sd_m16 (a : Nat) : nI a * 16 = nI (a * 16) := pk_mul a 16
theorem sd_m8 (a : Nat) : nI a * 8 = nI (a * 8) := pk_mul a 8
theorem sd_a8 (a : Nat) : nI a + 8 = nI (a + 8) := nI_add a 8
theorem sd_ne1 {a : Nat} (h : a < 2 ^ 31) : ¬ nI a = -1 := by
  intro e
  have h1 := nI_pos (n := a) h
  rw [e] at h1
  exact h1 (by decide)
theorem sd_ne4 {a : Nat} (h : a < 2 ^ 31) : ¬ nI a = -4 := by
  intro e
  have h1 := nI_pos (n := a) h
  rw [e] at h1
  exact h1 (by decide)
theorem sd_inj {a b : Nat} (h : nI a = nI b) (ha : a < 2 ^ 31) (hb : b < 2 ^ 31) : a = b := (nI_eq ha hb).mp h
theorem sd_n1 : (-1 : Int32) < 0 := by decide
theorem sd_n1' : ¬ (0 : Int32) ≤ -1 := by decide
theorem sd_n4 : (-4 : Int32) < 0 := by decide
theorem sd_n4' : ¬ (0 : Int32) ≤ -4 := by decide
theorem sd_10 : ¬ (1 : Int32) = 0 := by decide
theorem sd_20 : ¬ (2 : Int32) = 0 := by decide
theorem sd_12 : ¬ (1 : Int32) = 2 := by decide
theorem sd_b0 : vp_nar .boolean 0 = 0 := by decide
theorem sd_b1 : vp_nar .boolean 1 = 1 := by decide
theorem sd_cl {a : Nat → Int32} {k : Nat} {x : Int32} (h : k < 2 ^ 31) : upd a (nI k).toNatClampNeg x = upd a k x := by rw [nI_clamp h]
theorem sd_uid {a : Nat → Int32} {k : Nat} {x : Int32} (h : a k = x) : upd a k x = a := by
  funext j
  by_cases e : j = k
  · rw [e, pk_us, h]
  · rw [pk_un e]
theorem sd_uu {a : Nat → Int32} {k : Nat} {x y : Int32} : upd (upd a k x) k y = upd a k y := by
  funext j
  by_cases e : j = k
  · rw [e, pk_us, pk_us]
  · rw [pk_un e, pk_un e, pk_un e]
/-! counting -/
noncomputable def sd_cnt (p : Nat → Prop) : Nat → Nat
  | 0 => 0
  | n + 1 => sd_cnt p n + @ite Nat (p n) (Classical.propDecidable (p n)) 1 0
theorem sd_cnt_t {p : Nat → Prop} {n : Nat} (h : p n) : sd_cnt p (n + 1) = sd_cnt p n + 1 := by
  show sd_cnt p n + _ = _
  rw [if_pos h]
theorem sd_cnt_f {p : Nat → Prop} {n : Nat} (h : ¬ p n) : sd_cnt p (n + 1) = sd_cnt p n := by
  show sd_cnt p n + _ = _
  rw [if_neg h]
  rfl
theorem sd_cnt_c {p q : Nat → Prop} : ∀ N, (∀ i, i < N → (p i ↔ q i)) → sd_cnt p N = sd_cnt q N := by
  intro N
  induction N with
  | zero => intro _; rfl
  | succ N ih =>
    intro h
    have e := ih (fun i hi => h i (by omega))
    by_cases hp : p N
    · rw [sd_cnt_t hp, sd_cnt_t ((h N (by omega)).mp hp), e]
    · rw [sd_cnt_f hp, sd_cnt_f (fun z => hp ((h N (by omega)).mpr z)), e]
theorem sd_cnt_a {p : Nat → Prop} {b : Nat} (hb : ¬ p b) : ∀ N, b < N → sd_cnt (fun i => p i ∨ i = b) N = sd_cnt p N + 1 := by
  intro N
  induction N with
  | zero => intro h; omega
  | succ N ih =>
    intro h
    by_cases e : N = b
    · subst e
      have h1 : sd_cnt (fun i => p i ∨ i = N) (N + 1) = sd_cnt (fun i => p i ∨ i = N) N + 1 := sd_cnt_t (Or.inr rfl)
      have h2 : sd_cnt (fun i => p i ∨ i = N) N = sd_cnt p N := sd_cnt_c N (fun i hi => ⟨fun z => z.elim id (fun q => absurd q (by omega)), Or.inl⟩)
      rw [h1, h2, sd_cnt_f hb]
    · have h1 := ih (by omega)
      by_cases hp : p N
      · have h2 : sd_cnt (fun i => p i ∨ i = b) (N + 1) = sd_cnt (fun i => p i ∨ i = b) N + 1 := sd_cnt_t (Or.inl hp)
        rw [h2, h1, sd_cnt_t hp]
      · have h2 : sd_cnt (fun i => p i ∨ i = b) (N + 1) = sd_cnt (fun i => p i ∨ i = b) N := sd_cnt_f (fun z => z.elim hp e)
        rw [h2, h1, sd_cnt_f hp]
theorem sd_cnt_le {p : Nat → Prop} : ∀ N, sd_cnt p N ≤ N := by
  intro N
  induction N with
  | zero => exact Nat.le_refl 0
  | succ N ih =>
    by_cases hp : p N
    · rw [sd_cnt_t hp]; omega
    · rw [sd_cnt_f hp]; omega
theorem sd_cnt_lt {p : Nat → Prop} {b N : Nat} (hb : ¬ p b) (h : b < N) : sd_cnt p N < N := by
  have h1 := sd_cnt_a hb N h
  have h2 := sd_cnt_le (p := fun i => p i ∨ i = b) N
  omega
/-! slices: node n's part of an array, k cells a node -/
def sd_s (k : Nat) (a : Nat → Int32) (n : Nat) : Nat → Int32 := fun i => if i < k then a (n * k + i) else 0
theorem sd_sv {k n i : Nat} {a : Nat → Int32} (h : i < k) : sd_s k a n i = a (n * k + i) := if_pos h
theorem sd_key {k n m i j : Nat} (hi : i < k) (hj : j < k) (h : n * k + i = m * k + j) : n = m ∧ i = j := by
  have h1 : (n * k + i) / k = n := by rw [Nat.mul_comm, Nat.mul_add_div (by omega), Nat.div_eq_of_lt hi, Nat.add_zero]
  have h2 : (m * k + j) / k = m := by rw [Nat.mul_comm, Nat.mul_add_div (by omega), Nat.div_eq_of_lt hj, Nat.add_zero]
  have h3 : n = m := by rw [← h1, ← h2, h]
  subst h3
  exact ⟨rfl, by omega⟩
theorem sd_su {k n i : Nat} {a : Nat → Int32} {x : Int32} (hi : i < k) : sd_s k (upd a (n * k + i) x) n = upd (sd_s k a n) i x := by
  funext j
  by_cases e : j = i
  · subst e
    rw [pk_us, sd_sv hi, pk_us]
  · rw [pk_un e]
    by_cases hj : j < k
    · rw [sd_sv hj, sd_sv hj, pk_un (by omega)]
    · exact (if_neg hj).trans (if_neg hj).symm
theorem sd_so {k n m i : Nat} {a : Nat → Int32} {x : Int32} (hi : i < k) (hm : m ≠ n) : sd_s k (upd a (n * k + i) x) m = sd_s k a m := by
  funext j
  by_cases hj : j < k
  · rw [sd_sv hj, sd_sv hj, pk_un (fun z => hm (sd_key hj hi z).1)]
  · exact (if_neg hj).trans (if_neg hj).symm
end
section
/-! one node: its journal (c entries), its cache (R cells), its locks -/
section
variable {R c i b : Nat} {x v : Int32} {jb jv lk cb cv di co co' : Nat → Int32} {P P' : Nat → Prop}
def sd_inJ (c : Nat) (jb : Nat → Int32) (b : Nat) : Prop := ∃ i, i < c ∧ jb i = nI b
def sd_inD (R : Nat) (cb di : Nat → Int32) (b : Nat) : Prop := ∃ i, i < R ∧ cb i = nI b ∧ ¬ di i = 0
def sd_JO (c : Nat) (jb : Nat → Int32) : Prop :=
  c ≤ 16 ∧ (∀ i, i < c → ∃ b, b < 16 ∧ jb i = nI b) ∧ (∀ i j, i < c → j < c → jb i = jb j → i = j)
def sd_CO (R : Nat) (cb cv di lk co : Nat → Int32) : Prop :=
  (∀ i, i < R → (cb i = -1 ∧ di i = 0) ∨ ∃ b, b < 16 ∧ cb i = nI b ∧ cv i = co b ∧ ¬ lk b = 0) ∧ (∀ i j, i < R → j < R → cb i = cb j → cb i = -1 ∨ i = j)
def sd_OO (R c : Nat) (jb jv cb di lk co : Nat → Int32) (P : Nat → Prop) : Prop :=
  ∀ b, b < 16 → (P b ↔ sd_inJ c jb b ∨ sd_inD R cb di b) ∧ (P b → lk b = 2) ∧ ∀ i, i < c → jb i = nI b → jv i = co b ∨ sd_inD R cb di b
def sd_nd (R c : Nat) (jb jv lk cb cv di co : Nat → Int32) (P : Nat → Prop) : Prop :=
  sd_JO c jb ∧ sd_CO R cb cv di lk co ∧ sd_OO R c jb jv cb di lk co P
theorem sd_J1 {b0 : Nat} (e : jb c = nI b0) (hb0 : b0 < 16) (b : Nat) (hb : b < 16) : sd_inJ (c + 1) jb b ↔ sd_inJ c jb b ∨ b = b0 := by
  constructor
  · rintro ⟨i, hi, ei⟩
    by_cases q : i = c
    · subst q
      exact Or.inr (sd_inj (ei.symm.trans e) (by omega) (by omega))
    · exact Or.inl ⟨i, by omega, ei⟩
  · rintro (⟨i, hi, ei⟩ | q)
    · exact ⟨i, by omega, ei⟩
    · subst q
      exact ⟨c, by omega, e⟩
theorem sd_D1 {b0 : Nat} (e : cb i = nI b0) (hb0 : b0 < 16) (d : ¬ di i = 0) (b : Nat) (hb : b < 16) : sd_inD (i + 1) cb di b ↔ sd_inD i cb di b ∨ b = b0 := by
  constructor
  · rintro ⟨k, hk, ek, dk⟩
    by_cases q : k = i
    · subst q
      exact Or.inr (sd_inj (ek.symm.trans e) (by omega) (by omega))
    · exact Or.inl ⟨k, by omega, ek, dk⟩
  · rintro (⟨k, hk, ek, dk⟩ | q)
    · exact ⟨k, by omega, ek, dk⟩
    · subst q
      exact ⟨i, by omega, e, d⟩
theorem sd_D0 (d : di i = 0) (b : Nat) : sd_inD (i + 1) cb di b ↔ sd_inD i cb di b := by
  constructor
  · rintro ⟨k, hk, ek, dk⟩
    by_cases q : k = i
    · subst q
      exact absurd d dk
    · exact ⟨k, by omega, ek, dk⟩
  · rintro ⟨k, hk, ek, dk⟩
    exact ⟨k, by omega, ek, dk⟩
theorem sd_JO_cnt : ∀ c, sd_JO c jb → sd_cnt (sd_inJ c jb) 16 = c := by
  intro c
  induction c with
  | zero =>
    intro _
    have h : ∀ N, sd_cnt (sd_inJ 0 jb) N = 0 := by
      intro N
      induction N with
      | zero => rfl
      | succ N ih =>
        have hf : ¬ sd_inJ 0 jb N := by
          rintro ⟨i, hi, _⟩
          omega
        rw [sd_cnt_f hf, ih]
    exact h 16
  | succ c ih =>
    intro h
    obtain ⟨b, hb, e⟩ := h.2.1 c (by omega)
    have h0 : sd_JO c jb := ⟨by have := h.1; omega, fun i hi => h.2.1 i (by omega), fun i j hi hj => h.2.2 i j (by omega) (by omega)⟩
    have hn : ¬ sd_inJ c jb b := by
      rintro ⟨i, hi, ei⟩
      have := h.2.2 i c (by omega) (by omega) (ei.trans e.symm)
      omega
    have e1 : sd_cnt (sd_inJ (c + 1) jb) 16 = sd_cnt (fun i => sd_inJ c jb i ∨ i = b) 16 := sd_cnt_c 16 (fun b' hb' => sd_J1 e hb b' hb')
    rw [e1, sd_cnt_a hn 16 hb, ih h0]
/-- a newer content over an older entry -/
theorem sd_p1 (h : sd_nd R c jb jv lk cb cv di co P) (e : jb i = nI b) (hb : b < 16) : sd_nd R c jb (upd jv i (co b)) lk cb cv di co P := by
  refine ⟨h.1, h.2.1, fun b' hb' => ?_⟩
  obtain ⟨o1, o2, o3⟩ := h.2.2 b' hb'
  refine ⟨o1, o2, fun j hj ej => ?_⟩
  by_cases q : j = i
  · subst q
    refine Or.inl ?_
    rw [pk_us, sd_inj (e.symm.trans ej) (by omega) (by omega)]
  · rw [pk_un q]
    exact o3 j hj ej
/-- a new entry -/
theorem sd_p2 (h : sd_nd R c jb jv lk cb cv di co P) (hn : ¬ sd_inJ c jb b) (hb : b < 16) (hD : sd_inD R cb di b) : c < 16 ∧ sd_nd R (c + 1) (upd jb c (nI b)) (upd jv c (co b)) lk cb cv di co P := by
  have hc : c < 16 := by
    have h1 := sd_cnt_lt hn hb
    rw [sd_JO_cnt c h.1] at h1
    exact h1
  have hI : ∀ b', b' < 16 → (sd_inJ (c + 1) (upd jb c (nI b)) b' ↔ sd_inJ c jb b' ∨ b' = b) := by
    intro b' hb'
    rw [sd_J1 (jb := upd jb c (nI b)) pk_us hb b' hb']
    have : sd_inJ c (upd jb c (nI b)) b' ↔ sd_inJ c jb b' := by
      constructor
      · rintro ⟨i, hi, ei⟩
        rw [pk_un (by omega)] at ei
        exact ⟨i, hi, ei⟩
      · rintro ⟨i, hi, ei⟩
        exact ⟨i, hi, by rw [pk_un (by omega)]; exact ei⟩
    rw [this]
  refine ⟨hc, ⟨by omega, fun i hi => ?_, fun i j hi hj e => ?_⟩, h.2.1, fun b' hb' => ?_⟩
  · by_cases q : i = c
    · subst q
      exact ⟨b, hb, pk_us⟩
    · rw [pk_un q]
      exact h.1.2.1 i (by omega)
  · by_cases q : i = c
    · by_cases q' : j = c
      · omega
      · rw [q, pk_us, pk_un q'] at e
        exact absurd ⟨j, by omega, e.symm⟩ hn
    · by_cases q' : j = c
      · rw [q', pk_us, pk_un q] at e
        exact absurd ⟨i, by omega, e⟩ hn
      · rw [pk_un q, pk_un q'] at e
        exact h.1.2.2 i j (by omega) (by omega) e
  · obtain ⟨o1, o2, o3⟩ := h.2.2 b' hb'
    refine ⟨?_, o2, fun j hj ej => ?_⟩
    · rw [hI b' hb', o1]
      constructor
      · rintro (z | z)
        · exact Or.inl (Or.inl z)
        · exact Or.inr z
      · rintro ((z | z) | z)
        · exact Or.inl z
        · subst z
          exact Or.inr hD
        · exact Or.inr z
    · by_cases q : j = c
      · subst q
        rw [pk_us] at ej
        refine Or.inl ?_
        rw [pk_us, sd_inj ej (by omega) (by omega)]
      · rw [pk_un q] at ej ⊢
        exact o3 j (by omega) ej
/-- a cell that is journaled becomes clean -/
theorem sd_p3 (h : sd_nd R c jb jv lk cb cv di co P) (e : cb i = nI b) (hb : b < 16) (hJ : sd_inJ c jb b) (hv : ∀ j, j < c → jb j = nI b → jv j = co b) : sd_nd R c jb jv lk cb cv (upd di i 0) co P := by
  have hD : ∀ b', b' < 16 → b' ≠ b → (sd_inD R cb (upd di i 0) b' ↔ sd_inD R cb di b') := by
    intro b' hb' q
    constructor
    · rintro ⟨k, hk, ek, dk⟩
      by_cases r : k = i
      · rw [r, pk_us] at dk
        exact absurd rfl dk
      · rw [pk_un r] at dk
        exact ⟨k, hk, ek, dk⟩
    · rintro ⟨k, hk, ek, dk⟩
      by_cases r : k = i
      · subst r
        exact absurd (sd_inj (ek.symm.trans e) (by omega) (by omega)) q
      · exact ⟨k, hk, ek, by rw [pk_un r]; exact dk⟩
  refine ⟨h.1, ⟨fun k hk => ?_, h.2.1.2⟩, fun b' hb' => ?_⟩
  · rcases h.2.1.1 k hk with z | z
    · refine Or.inl ⟨z.1, ?_⟩
      by_cases r : k = i
      · rw [r, pk_us]
      · rw [pk_un r]; exact z.2
    · exact Or.inr z
  · obtain ⟨o1, o2, o3⟩ := h.2.2 b' hb'
    by_cases q : b' = b
    · subst q
      exact ⟨⟨fun _ => Or.inl hJ, fun _ => o1.mpr (Or.inl hJ)⟩, o2, fun j hj ej => Or.inl (hv j hj ej)⟩
    · rw [hD b' hb' q]
      exact ⟨o1, o2, o3⟩
/-- a clean cell is dropped -/
theorem sd_p4 (h : sd_nd R c jb jv lk cb cv di co P) (e : di i = 0) : sd_nd R c jb jv lk (upd cb i (-1)) cv di co P := by
  have hD : ∀ b', sd_inD R (upd cb i (-1)) di b' ↔ sd_inD R cb di b' := by
    intro b'
    constructor
    · rintro ⟨k, hk, ek, dk⟩
      by_cases r : k = i
      · subst r
        exact absurd e dk
      · rw [pk_un r] at ek
        exact ⟨k, hk, ek, dk⟩
    · rintro ⟨k, hk, ek, dk⟩
      by_cases r : k = i
      · subst r
        exact absurd e dk
      · exact ⟨k, hk, by rw [pk_un r]; exact ek, dk⟩
  refine ⟨h.1, ⟨fun k hk => ?_, fun k l hk hl ekl => ?_⟩, fun b' hb' => ?_⟩
  · by_cases r : k = i
    · subst r
      exact Or.inl ⟨pk_us, e⟩
    · rw [pk_un r]
      exact h.2.1.1 k hk
  · by_cases r : k = i
    · subst r
      exact Or.inl pk_us
    · by_cases r' : l = i
      · subst r'
        rw [pk_us] at ekl
        exact Or.inl ekl
      · rw [pk_un r, pk_un r'] at ekl
        rw [pk_un r]
        exact h.2.1.2 k l hk hl ekl
  · rw [hD b']
    exact h.2.2 b' hb'
theorem sd_free0 (h : sd_CO R cb cv di lk co) (hi : i < R) (e : cb i = -1) : di i = 0 := by
  rcases h.1 i hi with z | ⟨b', hb', z, _⟩
  · exact z.2
  · exact absurd (z.symm.trans e) (sd_ne1 (by omega))
/-- a free cell takes a block -/
theorem sd_p5 (h : sd_nd R c jb jv lk cb cv di co P) (hi : i < R) (e : cb i = -1) (hb : b < 16) (hn : ∀ j, j < R → ¬ cb j = nI b) (hl : ¬ lk b = 0) : sd_nd R c jb jv lk (upd cb i (nI b)) (upd cv i (co b)) di co P := by
  have d0 : di i = 0 := sd_free0 h.2.1 hi e
  have hD : ∀ b', sd_inD R (upd cb i (nI b)) di b' ↔ sd_inD R cb di b' := by
    intro b'
    constructor
    · rintro ⟨k, hk, ek, dk⟩
      by_cases r : k = i
      · subst r
        exact absurd d0 dk
      · rw [pk_un r] at ek
        exact ⟨k, hk, ek, dk⟩
    · rintro ⟨k, hk, ek, dk⟩
      by_cases r : k = i
      · subst r
        exact absurd d0 dk
      · exact ⟨k, hk, by rw [pk_un r]; exact ek, dk⟩
  refine ⟨h.1, ⟨fun k hk => ?_, fun k l hk hl' ekl => ?_⟩, fun b' hb' => ?_⟩
  · by_cases r : k = i
    · subst r
      exact Or.inr ⟨b, hb, pk_us, pk_us, hl⟩
    · rw [pk_un r, pk_un r]
      exact h.2.1.1 k hk
  · by_cases r : k = i
    · by_cases r' : l = i
      · exact Or.inr (r.trans r'.symm)
      · rw [r, pk_us, pk_un r'] at ekl
        exact absurd ekl.symm (hn l hl')
    · by_cases r' : l = i
      · rw [r', pk_us, pk_un r] at ekl
        exact absurd ekl (hn k hk)
      · rw [pk_un r, pk_un r'] at ekl
        rw [pk_un r]
        exact h.2.1.2 k l hk hl' ekl
  · rw [hD b']
    exact h.2.2 b' hb'
/-- a write into a cell -/
theorem sd_p6 (h : sd_nd R c jb jv lk cb cv di co P) (hi : i < R) (e : cb i = nI b) (hb : b < 16) (hl : lk b = 2) (hx : ¬ x = 0) (hP : ∀ b', b' < 16 → (P' b' ↔ P b' ∨ b' = b)) : sd_nd R c jb jv lk cb (upd cv i v) (upd di i x) (upd co b v) P' := by
  have hD : ∀ b', b' < 16 → (sd_inD R cb (upd di i x) b' ↔ sd_inD R cb di b' ∨ b' = b) := by
    intro b' hb'
    constructor
    · rintro ⟨k, hk, ek, dk⟩
      by_cases r : k = i
      · subst r
        exact Or.inr (sd_inj (ek.symm.trans e) (by omega) (by omega))
      · rw [pk_un r] at dk
        exact Or.inl ⟨k, hk, ek, dk⟩
    · rintro (⟨k, hk, ek, dk⟩ | q)
      · by_cases r : k = i
        · subst r
          exact ⟨k, hk, ek, by rw [pk_us]; exact hx⟩
        · exact ⟨k, hk, ek, by rw [pk_un r]; exact dk⟩
      · subst q
        exact ⟨i, hi, e, by rw [pk_us]; exact hx⟩
  refine ⟨h.1, ⟨fun k hk => ?_, h.2.1.2⟩, fun b' hb' => ?_⟩
  · by_cases r : k = i
    · subst r
      exact Or.inr ⟨b, hb, e, by rw [pk_us, pk_us], by rw [hl]; exact sd_20⟩
    · rw [pk_un r, pk_un r]
      rcases h.2.1.1 k hk with z | ⟨b', hb', z, z2, z3⟩
      · exact Or.inl z
      · refine Or.inr ⟨b', hb', z, ?_, z3⟩
        have q : b' ≠ b := by
          intro q
          subst q
          rcases h.2.1.2 k i hk hi (z.trans e.symm) with w | w
          · exact sd_ne1 (by omega) (z.symm.trans w)
          · exact r w
        rw [pk_un q]
        exact z2
  · obtain ⟨o1, o2, o3⟩ := h.2.2 b' hb'
    rw [hP b' hb', hD b' hb', o1]
    refine ⟨?_, ?_, fun j hj ej => ?_⟩
    · constructor
      · rintro ((z | z) | z)
        · exact Or.inl z
        · exact Or.inr (Or.inl z)
        · exact Or.inr (Or.inr z)
      · rintro (z | z | z)
        · exact Or.inl (Or.inl z)
        · exact Or.inl (Or.inr z)
        · exact Or.inr z
    · rintro (z | z)
      · exact o2 (o1.mpr z)
      · subst z
        exact hl
    · by_cases q : b' = b
      · exact Or.inr (Or.inr q)
      · rw [pk_un q]
        rcases o3 j hj ej with z | z
        · exact Or.inl z
        · exact Or.inr (Or.inl z)
/-- another lock -/
theorem sd_p7 (h : sd_nd R c jb jv lk cb cv di co P) (h0 : x = 0 → ∀ j, j < R → ¬ cb j = nI b) (h2 : P b → x = 2) : sd_nd R c jb jv (upd lk b x) cb cv di co P := by
  refine ⟨h.1, ⟨fun k hk => ?_, h.2.1.2⟩, fun b' hb' => ?_⟩
  · rcases h.2.1.1 k hk with z | ⟨b', hb', z, z2, z3⟩
    · exact Or.inl z
    · refine Or.inr ⟨b', hb', z, z2, ?_⟩
      by_cases q : b' = b
      · subst q
        rw [pk_us]
        exact fun w => h0 w k hk z
      · rw [pk_un q]
        exact z3
  · obtain ⟨o1, o2, o3⟩ := h.2.2 b' hb'
    refine ⟨o1, fun z => ?_, o3⟩
    by_cases q : b' = b
    · subst q
      rw [pk_us]
      exact h2 z
    · rw [pk_un q]
      exact o2 z
/-- the journal is empty and every cell clean -/
theorem sd_p8 (h : sd_CO R cb cv di lk co) (hd : ∀ i, i < R → di i = 0) (hP : ∀ b, b < 16 → ¬ P' b) : sd_nd R 0 jb jv lk cb cv di co P' := by
  refine ⟨⟨by omega, fun i hi => by omega, fun i j hi => by omega⟩, h, fun b hb => ⟨⟨fun z => absurd z (hP b hb), ?_⟩, fun z => absurd z (hP b hb), fun i hi => by omega⟩⟩
  rintro (⟨i, hi, _⟩ | ⟨i, hi, _, z⟩)
  · omega
  · exact absurd (hd i hi) z
theorem sd_p9 (h : ∀ i, i < R → cb i = -1 ∧ di i = 0) (hP : ∀ b, b < 16 → ¬ P' b) : sd_nd R 0 jb jv lk cb cv di co P' :=
  sd_p8 ⟨fun i hi => Or.inl (h i hi), fun i j hi hj _ => Or.inl (h i hi).1⟩ (fun i hi => (h i hi).2) hP
/-- contents change only where this node has no lock -/
theorem sd_p10 (h : sd_nd R c jb jv lk cb cv di co P) (hc : ∀ b, b < 16 → co' b = co b ∨ lk b = 0) (hP : ∀ b, b < 16 → (P' b ↔ P b)) : sd_nd R c jb jv lk cb cv di co' P' := by
  refine ⟨h.1, ⟨fun k hk => ?_, h.2.1.2⟩, fun b hb => ?_⟩
  · rcases h.2.1.1 k hk with z | ⟨b, hb, z, z2, z3⟩
    · exact Or.inl z
    · refine Or.inr ⟨b, hb, z, ?_, z3⟩
      rcases hc b hb with w | w
      · rw [w]; exact z2
      · exact absurd w z3
  · obtain ⟨o1, o2, o3⟩ := h.2.2 b hb
    rw [hP b hb]
    refine ⟨o1, o2, fun i hi ei => ?_⟩
    rcases hc b hb with w | w
    · rw [w]; exact o3 i hi ei
    · have := o2 (o1.mpr (Or.inl ⟨i, hi, ei⟩))
      rw [w] at this
      exact absurd this.symm sd_20
/-! the count of unsaved blocks, cell by cell -/
theorem sd_q0 (h : sd_JO c jb) : sd_cnt (fun b => sd_inJ c jb b ∨ sd_inD 0 cb di b) 16 = c := by
  have e : sd_cnt (fun b => sd_inJ c jb b ∨ sd_inD 0 cb di b) 16 = sd_cnt (sd_inJ c jb) 16 := by
    refine sd_cnt_c 16 (fun b hb => ⟨?_, Or.inl⟩)
    rintro (z | ⟨i, hi, _⟩)
    · exact z
    · omega
  rw [e, sd_JO_cnt c h]
theorem sd_q1 (d : di i = 0) : sd_cnt (fun b => sd_inJ c jb b ∨ sd_inD (i + 1) cb di b) 16 = sd_cnt (fun b => sd_inJ c jb b ∨ sd_inD i cb di b) 16 :=
  sd_cnt_c 16 (fun b hb => by rw [sd_D0 d b])
theorem sd_q2 (e : cb i = nI b) (hb : b < 16) (d : ¬ di i = 0) (hJ : sd_inJ c jb b) : sd_cnt (fun b => sd_inJ c jb b ∨ sd_inD (i + 1) cb di b) 16 = sd_cnt (fun b => sd_inJ c jb b ∨ sd_inD i cb di b) 16 := by
  refine sd_cnt_c 16 (fun b' hb' => ?_)
  rw [sd_D1 e hb d b' hb']
  constructor
  · rintro (z | z | z)
    · exact Or.inl z
    · exact Or.inr z
    · subst z
      exact Or.inl hJ
  · rintro (z | z)
    · exact Or.inl z
    · exact Or.inr (Or.inl z)
theorem sd_q3 (h : sd_CO R cb cv di lk co) (hi : i < R) (e : cb i = nI b) (hb : b < 16) (d : ¬ di i = 0) (hJ : ¬ sd_inJ c jb b) : sd_cnt (fun b => sd_inJ c jb b ∨ sd_inD (i + 1) cb di b) 16 = sd_cnt (fun b => sd_inJ c jb b ∨ sd_inD i cb di b) 16 + 1 := by
  have hn : ¬ (sd_inJ c jb b ∨ sd_inD i cb di b) := by
    rintro (z | ⟨k, hk, ek, _⟩)
    · exact hJ z
    · rcases h.2 k i (by omega) hi (ek.trans e.symm) with w | w
      · exact sd_ne1 (by omega) (ek.symm.trans w)
      · omega
  rw [← sd_cnt_a (p := fun b => sd_inJ c jb b ∨ sd_inD i cb di b) hn 16 hb]
  refine sd_cnt_c 16 (fun b' hb' => ?_)
  rw [sd_D1 e hb d b' hb']
  exact or_assoc.symm
theorem sd_q4 (h : sd_OO R c jb jv cb di lk co P) : sd_cnt (fun b => sd_inJ c jb b ∨ sd_inD R cb di b) 16 = sd_cnt P 16 :=
  sd_cnt_c 16 (fun b hb => (h b hb).1.symm)
end
end
section
/-! the relation, as a predicate of all arrays -/
section
variable {R n i b c : Nat} {x v : Int32} {fr : Int32} {rn om jc jb jv js jm lk cb cv di hz : Nat → Int32} {co sa ow dn : Nat → Int32}
def sd_N (R n : Nat) (jc jb jv lk cb cv di hz co ow : Nat → Int32) : Prop :=
  (∃ h, h < R ∧ hz n = nI h) ∧ ∃ c, jc n = nI c ∧ sd_nd R c (sd_s 16 jb n) (sd_s 16 jv n) (sd_s 16 lk n) (sd_s 8 cb n) (sd_s 8 cv n) (sd_s 8 di n) co (fun b => ow b = nI n)
def sd_L (lk : Nat → Int32) : Prop :=
  (∀ n b, n < 3 → b < 16 → lk (n * 16 + b) = 0 ∨ lk (n * 16 + b) = 1 ∨ lk (n * 16 + b) = 2) ∧
  (∀ n m b, n < 3 → m < 3 → b < 16 → n ≠ m → lk (n * 16 + b) = 2 → lk (m * 16 + b) = 0)
def sd_O (co sa ow : Nat → Int32) : Prop := ∀ b, b < 16 → (ow b = -4 ∧ co b = sa b) ∨ ∃ n, n < 3 ∧ ow b = nI n
def sd_I (R : Nat) (fr : Int32) (rn om jc jb jv jm lk cb cv di hz co sa ow dn : Nat → Int32) : Prop :=
  (fr = nI R ∧ 2 ≤ R ∧ R ≤ 8) ∧ (∀ n, n < 3 → sd_N R n jc jb jv lk cb cv di hz co ow) ∧ sd_L lk ∧ sd_O co sa ow ∧
  (∀ b, b < 16 → om b = sa b) ∧ (∀ n, n < 3 → (rn n = 0 ↔ ¬ dn n = 0)) ∧ (∀ n, n < 3 → jm n = 0)
theorem sd_upN {jc' jb' jv' lk' cb' cv' di' hz' : Nat → Int32} (I : sd_I R fr rn om jc jb jv jm lk cb cv di hz co sa ow dn) (hn : n < 3)
    (s1 : ∀ m, m ≠ n → jc' m = jc m ∧ hz' m = hz m)
    (s2 : ∀ m, m ≠ n → sd_s 16 jb' m = sd_s 16 jb m ∧ sd_s 16 jv' m = sd_s 16 jv m ∧ sd_s 16 lk' m = sd_s 16 lk m)
    (s3 : ∀ m, m ≠ n → sd_s 8 cb' m = sd_s 8 cb m ∧ sd_s 8 cv' m = sd_s 8 cv m ∧ sd_s 8 di' m = sd_s 8 di m)
    (nd : sd_N R n jc' jb' jv' lk' cb' cv' di' hz' co ow) (hL : sd_L lk') :
    sd_I R fr rn om jc' jb' jv' jm lk' cb' cv' di' hz' co sa ow dn := by
  refine ⟨I.1, fun m hm => ?_, hL, I.2.2.2⟩
  by_cases q : m = n
  · subst q
    exact nd
  · obtain ⟨⟨h, hh, eh⟩, c, ec, z⟩ := I.2.1 m hm
    refine ⟨⟨h, hh, (s1 m q).2.trans eh⟩, c, (s1 m q).1.trans ec, ?_⟩
    rw [(s2 m q).1, (s2 m q).2.1, (s2 m q).2.2, (s3 m q).1, (s3 m q).2.1, (s3 m q).2.2]
    exact z
/-- a newer content over an older entry -/
theorem sd_g1 (I : sd_I R fr rn om jc jb jv jm lk cb cv di hz co sa ow dn) (hn : n < 3) (hi : i < 16) (e : jb (n * 16 + i) = nI b) (hb : b < 16) : sd_I R fr rn om jc jb (upd jv (n * 16 + i) (co b)) jm lk cb cv di hz co sa ow dn := by
  refine sd_upN I hn (fun m q => ⟨rfl, rfl⟩) (fun m q => ⟨rfl, sd_so hi q, rfl⟩) (fun m q => ⟨rfl, rfl, rfl⟩) ?_ I.2.2.1
  obtain ⟨hh, c', ec', z⟩ := I.2.1 n hn
  refine ⟨hh, c', ec', ?_⟩
  rw [sd_su hi]
  exact sd_p1 z (by rw [sd_sv hi]; exact e) hb
/-- a new entry -/
theorem sd_g2 (I : sd_I R fr rn om jc jb jv jm lk cb cv di hz co sa ow dn) (hn : n < 3) (ec : jc n = nI c) (hc : c ≤ 16) (hno : ∀ i, i < c → ¬ jb (n * 16 + i) = nI b) (hb : b < 16) (hi : i < R) (e : cb (n * 8 + i) = nI b) (hD : ¬ di (n * 8 + i) = 0) :
    c < 16 ∧ sd_I R fr rn om (upd jc n (nI (c + 1))) (upd jb (n * 16 + c) (nI b)) (upd jv (n * 16 + c) (co b)) jm lk cb cv di hz co sa ow dn := by
  obtain ⟨hh, c', ec', z⟩ := I.2.1 n hn
  have hR := I.1.2.2
  have hc' := z.1.1
  have q : c' = c := sd_inj (ec'.symm.trans ec) (by omega) (by omega)
  subst q
  have hJ : ¬ sd_inJ c' (sd_s 16 jb n) b := by
    rintro ⟨j, hj, ej⟩
    rw [sd_sv (by omega)] at ej
    exact hno j hj ej
  have hDD : sd_inD R (sd_s 8 cb n) (sd_s 8 di n) b := ⟨i, hi, by rw [sd_sv (by omega)]; exact e, by rw [sd_sv (by omega)]; exact hD⟩
  obtain ⟨h16, z'⟩ := sd_p2 z hJ hb hDD
  refine ⟨h16, ?_⟩
  refine sd_upN I hn (fun m q => ⟨pk_un q, rfl⟩) (fun m q => ⟨sd_so h16 q, sd_so h16 q, rfl⟩) (fun m q => ⟨rfl, rfl, rfl⟩) ⟨hh, c' + 1, pk_us, ?_⟩ I.2.2.1
  rw [sd_su h16, sd_su h16]
  exact z'
/-- block b stands in n's journal, with its content -/
def sd_JV (n b : Nat) (jc jb jv co : Nat → Int32) : Prop :=
  ∃ c, jc n = nI c ∧ c ≤ 16 ∧ sd_inJ c (sd_s 16 jb n) b ∧ ∀ j, j < c → sd_s 16 jb n j = nI b → sd_s 16 jv n j = co b
/-- a cell becomes clean -/
theorem sd_g3 (I : sd_I R fr rn om jc jb jv jm lk cb cv di hz co sa ow dn) (hn : n < 3) (hi : i < R) (e : cb (n * 8 + i) = nI b) (hb : b < 16) (hJ : sd_JV n b jc jb jv co) : sd_I R fr rn om jc jb jv jm lk cb cv (upd di (n * 8 + i) 0) hz co sa ow dn := by
  have hR := I.1.2.2
  obtain ⟨hh, c', ec', z⟩ := I.2.1 n hn
  obtain ⟨c, ec, hc, hJ1, hJ2⟩ := hJ
  have hc' := z.1.1
  have q : c' = c := sd_inj (ec'.symm.trans ec) (by omega) (by omega)
  subst q
  have h8 : i < 8 := by omega
  refine sd_upN I hn (fun m q => ⟨rfl, rfl⟩) (fun m q => ⟨rfl, rfl, rfl⟩) (fun m q => ⟨rfl, rfl, sd_so h8 q⟩) ⟨hh, c', ec', ?_⟩ I.2.2.1
  rw [sd_su h8]
  exact sd_p3 z (by rw [sd_sv h8]; exact e) hb hJ1 hJ2
/-- a clean cell is dropped -/
theorem sd_g4 (I : sd_I R fr rn om jc jb jv jm lk cb cv di hz co sa ow dn) (hn : n < 3) (hi : i < R) (e : di (n * 8 + i) = 0) : sd_I R fr rn om jc jb jv jm lk (upd cb (n * 8 + i) (-1)) cv di hz co sa ow dn := by
  have hR := I.1.2.2
  obtain ⟨hh, c', ec', z⟩ := I.2.1 n hn
  have h8 : i < 8 := by omega
  refine sd_upN I hn (fun m q => ⟨rfl, rfl⟩) (fun m q => ⟨rfl, rfl, rfl⟩) (fun m q => ⟨sd_so h8 q, rfl, rfl⟩) ⟨hh, c', ec', ?_⟩ I.2.2.1
  rw [sd_su h8]
  exact sd_p4 z (by rw [sd_sv h8]; exact e)
/-- a free cell takes a block -/
theorem sd_g5 (I : sd_I R fr rn om jc jb jv jm lk cb cv di hz co sa ow dn) (hn : n < 3) (hi : i < R) (e : cb (n * 8 + i) = -1) (hb : b < 16) (hno : ∀ j, j < R → ¬ cb (n * 8 + j) = nI b) (hl : ¬ lk (n * 16 + b) = 0) :
    sd_I R fr rn om jc jb jv jm lk (upd cb (n * 8 + i) (nI b)) (upd cv (n * 8 + i) (co b)) di hz co sa ow dn := by
  have hR := I.1.2.2
  obtain ⟨hh, c', ec', z⟩ := I.2.1 n hn
  have h8 : i < 8 := by omega
  refine sd_upN I hn (fun m q => ⟨rfl, rfl⟩) (fun m q => ⟨rfl, rfl, rfl⟩) (fun m q => ⟨sd_so h8 q, sd_so h8 q, rfl⟩) ⟨hh, c', ec', ?_⟩ I.2.2.1
  rw [sd_su h8, sd_su h8]
  refine sd_p5 z hi (by rw [sd_sv h8]; exact e) hb (fun j hj => ?_) (by rw [sd_sv hb]; exact hl)
  rw [sd_sv (by omega)]
  exact hno j hj
/-- the hand -/
theorem sd_gh (I : sd_I R fr rn om jc jb jv jm lk cb cv di hz co sa ow dn) (hn : n < 3) (hi : i < R) : sd_I R fr rn om jc jb jv jm lk cb cv di (upd hz n (nI i)) co sa ow dn := by
  obtain ⟨hh, c', ec', z⟩ := I.2.1 n hn
  exact sd_upN I hn (fun m q => ⟨rfl, pk_un q⟩) (fun m q => ⟨rfl, rfl, rfl⟩) (fun m q => ⟨rfl, rfl, rfl⟩) ⟨⟨i, hi, pk_us⟩, c', ec', z⟩ I.2.2.1
/-- a write -/
theorem sd_g6 (I : sd_I R fr rn om jc jb jv jm lk cb cv di hz co sa ow dn) (hn : n < 3) (hi : i < R) (e : cb (n * 8 + i) = nI b) (hb : b < 16) (hl : lk (n * 16 + b) = 2) :
    sd_I R fr rn om jc jb jv jm lk cb (upd cv (n * 8 + i) v) (upd di (n * 8 + i) 1) hz (upd co b v) sa (upd ow b (nI n)) dn := by
  have hR := I.1.2.2
  have h8 : i < 8 := by omega
  refine ⟨I.1, fun m hm => ?_, I.2.2.1, fun b' hb' => ?_, I.2.2.2.2⟩
  · obtain ⟨hh, c', ec', z⟩ := I.2.1 m hm
    refine ⟨hh, c', ec', ?_⟩
    by_cases q : m = n
    · subst q
      rw [sd_su h8, sd_su h8]
      refine sd_p6 z hi (by rw [sd_sv h8]; exact e) hb (by rw [sd_sv hb]; exact hl) sd_10 (fun b' hb' => ?_)
      by_cases r : b' = b
      · subst r
        rw [pk_us]
        exact ⟨fun _ => Or.inr rfl, fun _ => rfl⟩
      · rw [pk_un r]
        exact ⟨Or.inl, fun w => w.elim id (fun w => absurd w r)⟩
    · rw [sd_so h8 q, sd_so h8 q]
      have h0 : lk (m * 16 + b) = 0 := I.2.2.1.2 n m b hn hm hb (fun w => q w.symm) hl
      refine sd_p10 z (fun b' hb' => ?_) (fun b' hb' => ?_)
      · by_cases r : b' = b
        · subst r
          exact Or.inr (by rw [sd_sv hb]; exact h0)
        · exact Or.inl (pk_un r)
      · by_cases r : b' = b
        · subst r
          rw [pk_us]
          constructor
          · intro w
            exact absurd (sd_inj w (by omega) (by omega)).symm q
          · intro w
            have w2 := (z.2.2 b' hb').2.1 w
            rw [sd_sv hb, h0] at w2
            exact absurd w2.symm sd_20
        · rw [pk_un r]
  · by_cases r : b' = b
    · subst r
      exact Or.inr ⟨n, hn, pk_us⟩
    · rw [pk_un r, pk_un r]
      exact I.2.2.2.1 b' hb'
/-- locks -/
theorem sd_Lset (h : sd_L lk) (hn : n < 3) (hb : b < 16) (hx : x = 0 ∨ x = 1 ∨ x = 2) (h1 : ¬ x = 0 → ∀ m, m < 3 → m ≠ n → ¬ lk (m * 16 + b) = 2) (h2 : x = 2 → ∀ m, m < 3 → m ≠ n → lk (m * 16 + b) = 0) :
    sd_L (upd lk (n * 16 + b) x) := by
  refine ⟨fun m b' hm hb' => ?_, fun m1 m2 b' hm1 hm2 hb' hne e => ?_⟩
  · by_cases q : m * 16 + b' = n * 16 + b
    · rw [q, pk_us]
      exact hx
    · rw [pk_un q]
      exact h.1 m b' hm hb'
  · by_cases r : b' = b
    · subst r
      by_cases q1 : m1 = n
      · subst q1
        rw [pk_us] at e
        rw [pk_un (by omega)]
        exact h2 e m2 hm2 (fun w => hne w.symm)
      · rw [pk_un (by omega)] at e
        by_cases q2 : m2 = n
        · subst q2
          rw [pk_us]
          by_cases hx0 : x = 0
          · exact hx0
          · exact absurd e (h1 hx0 m1 hm1 q1)
        · rw [pk_un (by omega)]
          exact h.2 m1 m2 b' hm1 hm2 hb' hne e
    · rw [pk_un (by omega)] at e ⊢
      exact h.2 m1 m2 b' hm1 hm2 hb' hne e
theorem sd_g7 (I : sd_I R fr rn om jc jb jv jm lk cb cv di hz co sa ow dn) (hn : n < 3) (hb : b < 16) (hL : sd_L (upd lk (n * 16 + b) x)) (h0 : x = 0 → ∀ j, j < R → ¬ cb (n * 8 + j) = nI b) (h2 : ow b = nI n → x = 2) : sd_I R fr rn om jc jb jv jm (upd lk (n * 16 + b) x) cb cv di hz co sa ow dn := by
  have hR := I.1.2.2
  obtain ⟨hh, c', ec', z⟩ := I.2.1 n hn
  refine sd_upN I hn (fun m q => ⟨rfl, rfl⟩) (fun m q => ⟨rfl, rfl, sd_so hb q⟩) (fun m q => ⟨rfl, rfl, rfl⟩) ⟨hh, c', ec', ?_⟩ hL
  rw [sd_su hb]
  refine sd_p7 z (fun hx j hj => ?_) h2
  rw [sd_sv (by omega)]
  exact h0 hx j hj
/-! what a settled node leaves: f where it was the owner, g elsewhere -/
def sd_pa (N : Nat) (f g ow : Nat → Int32) (x : Int32) : Nat → Int32 := fun b => if b < N ∧ ow b = x then f b else g b
theorem sd_pat {N : Nat} {f g : Nat → Int32} (hb : b < N) (e : ow b = x) : sd_pa N f g ow x b = f b := if_pos ⟨hb, e⟩
theorem sd_paf {N : Nat} {f g : Nat → Int32} (e : ¬ ow b = x) : sd_pa N f g ow x b = g b := if_neg (fun z => e z.2)
theorem sd_pao {N : Nat} {f g : Nat → Int32} (e : ¬ b < N) : sd_pa N f g ow x b = g b := if_neg (fun z => e z.1)
theorem sd_pa0 {f g : Nat → Int32} : sd_pa 0 f g ow x = g := by
  funext b
  exact sd_pao (by omega)
theorem sd_pas {f g : Nat → Int32} (e : ow i = x) : upd (sd_pa i f g ow x) i (f i) = sd_pa (i + 1) f g ow x := by
  funext b
  by_cases q : b = i
  · subst q
    rw [pk_us, sd_pat (by omega) e]
  · rw [pk_un q]
    by_cases r : ow b = x
    · by_cases hb : b < i
      · rw [sd_pat hb r, sd_pat (by omega) r]
      · rw [sd_pao hb, sd_pao (by omega)]
    · rw [sd_paf r, sd_paf r]
theorem sd_pan {f g : Nat → Int32} (e : ¬ ow i = x) : sd_pa i f g ow x = sd_pa (i + 1) f g ow x := by
  funext b
  by_cases r : ow b = x
  · by_cases hb : b < i
    · rw [sd_pat hb r, sd_pat (by omega) r]
    · have : ¬ b = i := by
        intro q
        subst q
        exact e r
      rw [sd_pao hb, sd_pao (by omega)]
  · rw [sd_paf r, sd_paf r]
theorem sd_pan' {N : Nat} {f g : Nat → Int32} (e : ∀ b, b < N → ¬ ow b = x) : sd_pa N f g ow x = g := by
  funext b
  by_cases hb : b < N
  · exact sd_paf (e b hb)
  · exact sd_pao hb
theorem sd_owx {m : Nat} (hm : m < 3) (hn : n < 3) (hb : b < 16) (q : m ≠ n) : sd_pa 16 (fun _ => -4) ow ow (nI n) b = nI m ↔ ow b = nI m := by
  by_cases r : ow b = nI n
  · rw [sd_pat hb r, r]
    constructor
    · intro w
      exact absurd w.symm (sd_ne4 (by omega))
    · intro w
      exact absurd (sd_inj w (by omega) (by omega)).symm q
  · rw [sd_paf r]
theorem sd_owy (hn : n < 3) (hb : b < 16) : ¬ sd_pa 16 (fun _ => -4) ow ow (nI n) b = nI n := by
  by_cases r : ow b = nI n
  · rw [sd_pat hb r]
    exact fun w => sd_ne4 (by omega) w.symm
  · rw [sd_paf r]
    exact r
/-- n's writes have become safe -/
theorem sd_g8 {om' jm' : Nat → Int32} (I : sd_I R fr rn om jc jb jv jm lk cb cv di hz co sa ow dn) (hn : n < 3) (ec : jc n = nI c) (hc : c ≤ 16) (hd : ∀ i, i < R → di (n * 8 + i) = 0)
    (ho : ∀ b, b < 16 → ((∃ i, i < c ∧ jb (n * 16 + i) = nI b) → om' b = co b) ∧ (¬ (∃ i, i < c ∧ jb (n * 16 + i) = nI b) → om' b = om b)) (hj : ∀ m, m < 3 → jm' m = 0) :
    sd_I R fr rn om' (upd jc n 0) jb jv jm' lk cb cv di hz co (sd_pa 16 co sa ow (nI n)) (sd_pa 16 (fun _ => -4) ow ow (nI n)) dn := by
  have hR := I.1.2.2
  obtain ⟨hh, c', ec', z⟩ := I.2.1 n hn
  have hc' := z.1.1
  have q : c' = c := sd_inj (ec'.symm.trans ec) (by omega) (by omega)
  subst q
  have hz0 : ∀ i, i < R → sd_s 8 di n i = 0 := fun i hi => by rw [sd_sv (by omega)]; exact hd i hi
  have hJ : ∀ b, b < 16 → (ow b = nI n ↔ ∃ i, i < c' ∧ jb (n * 16 + i) = nI b) := by
    intro b hb
    refine Iff.trans (z.2.2 b hb).1 ?_
    constructor
    · rintro (⟨i, hi, ei⟩ | ⟨i, hi, _, w⟩)
      · rw [sd_sv (by omega)] at ei
        exact ⟨i, hi, ei⟩
      · exact absurd (hz0 i hi) w
    · rintro ⟨i, hi, ei⟩
      exact Or.inl ⟨i, hi, by rw [sd_sv (by omega)]; exact ei⟩
  refine ⟨I.1, fun m hm => ?_, I.2.2.1, fun b hb => ?_, fun b hb => ?_, I.2.2.2.2.2.1, hj⟩
  · by_cases q : m = n
    · subst q
      exact ⟨hh, 0, pk_us.trans nI_0.symm, sd_p8 z.2.1 hz0 (fun b hb => sd_owy hn hb)⟩
    · obtain ⟨hh, c, ec, z⟩ := I.2.1 m hm
      exact ⟨hh, c, (pk_un q).trans ec, sd_p10 z (fun b hb => Or.inl rfl) (fun b hb => sd_owx hm hn hb q)⟩
  · by_cases r : ow b = nI n
    · rw [sd_pat hb r, sd_pat hb r]
      exact Or.inl ⟨rfl, rfl⟩
    · rw [sd_paf r, sd_paf r]
      exact I.2.2.2.1 b hb
  · by_cases r : ow b = nI n
    · rw [sd_pat hb r]
      exact (ho b hb).1 ((hJ b hb).mp r)
    · rw [sd_paf r, (ho b hb).2 (fun w => r ((hJ b hb).mpr w))]
      exact I.2.2.2.2.1 b hb
/-- n is dead, its unsaved writes are gone -/
theorem sd_g9 {jm' lk' cb' di' : Nat → Int32} (I : sd_I R fr rn om jc jb jv jm lk cb cv di hz co sa ow dn) (hn : n < 3) (hC : ∀ i, i < 8 → cb' (n * 8 + i) = -1 ∧ di' (n * 8 + i) = 0)
    (hO : ∀ m, m ≠ n → sd_s 8 cb' m = sd_s 8 cb m ∧ sd_s 8 di' m = sd_s 8 di m) (hK : ∀ b, b < 16 → lk' (n * 16 + b) = 0) (hM : ∀ m, m ≠ n → sd_s 16 lk' m = sd_s 16 lk m) (hj : ∀ m, m < 3 → jm' m = 0) :
    sd_I R fr (upd rn n 0) om (upd jc n 0) jb jv jm' lk' cb' cv di' hz (sd_pa 16 sa co ow (nI n)) sa (sd_pa 16 (fun _ => -4) ow ow (nI n)) (upd dn n 1) := by
  have hR := I.1.2.2
  obtain ⟨hh, c', ec', z⟩ := I.2.1 n hn
  have hl : ∀ m b, m ≠ n → b < 16 → lk' (m * 16 + b) = lk (m * 16 + b) := by
    intro m b q hb
    have := congrFun (hM m q) b
    rw [sd_sv hb, sd_sv hb] at this
    exact this
  refine ⟨I.1, fun m hm => ?_, ⟨fun m b hm hb => ?_, fun m1 m2 b hm1 hm2 hb hne e => ?_⟩, fun b hb => ?_, I.2.2.2.2.1, fun m hm => ?_, hj⟩
  · by_cases q : m = n
    · subst q
      exact ⟨hh, 0, pk_us.trans nI_0.symm, sd_p9 (fun i hi => by rw [sd_sv (by omega), sd_sv (by omega)]; exact hC i (by omega)) (fun b hb => sd_owy hn hb)⟩
    · obtain ⟨hh, c, ec, y⟩ := I.2.1 m hm
      refine ⟨hh, c, (pk_un q).trans ec, ?_⟩
      rw [(hO m q).1, (hO m q).2, hM m q]
      refine sd_p10 y (fun b hb => ?_) (fun b hb => sd_owx hm hn hb q)
      by_cases r : ow b = nI n
      · have w := (z.2.2 b hb).2.1 r
        rw [sd_sv hb] at w
        exact Or.inr (by rw [sd_sv hb]; exact I.2.2.1.2 n m b hn hm hb (fun w => q w.symm) w)
      · exact Or.inl (sd_paf r)
  · by_cases q : m = n
    · subst q
      exact Or.inl (hK b hb)
    · rw [hl m b q hb]
      exact I.2.2.1.1 m b hm hb
  · by_cases q2 : m2 = n
    · subst q2
      exact hK b hb
    · rw [hl m2 b q2 hb]
      by_cases q1 : m1 = n
      · subst q1
        rw [hK b hb] at e
        exact absurd e.symm sd_20
      · rw [hl m1 b q1 hb] at e
        exact I.2.2.1.2 m1 m2 b hm1 hm2 hb hne e
  · by_cases r : ow b = nI n
    · rw [sd_pat hb r, sd_pat hb r]
      exact Or.inl ⟨rfl, rfl⟩
    · rw [sd_paf r, sd_paf r]
      exact I.2.2.2.1 b hb
  · by_cases q : m = n
    · subst q
      rw [pk_us, pk_us]
      exact ⟨fun _ => sd_10, fun _ => rfl⟩
    · rw [pk_un q, pk_un q]
      exact I.2.2.2.2.2.1 m hm
/-- n is dead, its writes safe -/
theorem sd_g10 {om' jm' lk' cb' di' : Nat → Int32} (I : sd_I R fr rn om jc jb jv jm lk cb cv di hz co sa ow dn) (hn : n < 3) (ec : jc n = nI c) (hc : c ≤ 16) (hd : ∀ i, i < R → di (n * 8 + i) = 0)
    (ho : ∀ b, b < 16 → ((∃ i, i < c ∧ jb (n * 16 + i) = nI b) → om' b = co b) ∧ (¬ (∃ i, i < c ∧ jb (n * 16 + i) = nI b) → om' b = om b))
    (hC : ∀ i, i < 8 → cb' (n * 8 + i) = -1 ∧ di' (n * 8 + i) = 0)
    (hO : ∀ m, m ≠ n → sd_s 8 cb' m = sd_s 8 cb m ∧ sd_s 8 di' m = sd_s 8 di m) (hK : ∀ b, b < 16 → lk' (n * 16 + b) = 0) (hM : ∀ m, m ≠ n → sd_s 16 lk' m = sd_s 16 lk m) (hj : ∀ m, m < 3 → jm' m = 0) :
    sd_I R fr (upd rn n 0) om' (upd jc n 0) jb jv jm' lk' cb' cv di' hz co (sd_pa 16 co sa ow (nI n)) (sd_pa 16 (fun _ => -4) ow ow (nI n)) (upd dn n 1) := by
  have I1 := sd_g8 I hn ec hc hd ho hj
  have I2 := sd_g9 I1 hn hC hO hK hM hj
  rw [sd_uu, sd_pan' (fun b hb => sd_owy hn hb), sd_pan' (fun b hb => sd_owy hn hb)] at I2
  exact I2
theorem sd_gr {rn' dn' : Nat → Int32} (I : sd_I R fr rn om jc jb jv jm lk cb cv di hz co sa ow dn) (h : ∀ n, n < 3 → (rn' n = 0 ↔ ¬ dn' n = 0)) : sd_I R fr rn' om jc jb jv jm lk cb cv di hz co sa ow dn' :=
  ⟨I.1, I.2.1, I.2.2.1, I.2.2.2.1, I.2.2.2.2.1, h, I.2.2.2.2.2.2⟩
/-! what a cell or an entry says -/
theorem sd_cell (I : sd_I R fr rn om jc jb jv jm lk cb cv di hz co sa ow dn) (hn : n < 3) (hi : i < R) : (cb (n * 8 + i) = -1 ∧ di (n * 8 + i) = 0) ∨ ∃ b, b < 16 ∧ cb (n * 8 + i) = nI b ∧ cv (n * 8 + i) = co b ∧ ¬ lk (n * 16 + b) = 0 := by
  have hR := I.1.2.2
  obtain ⟨hh, c', ec', z⟩ := I.2.1 n hn
  rcases z.2.1.1 i hi with w | ⟨b, hb, w1, w2, w3⟩
  · rw [sd_sv (by omega), sd_sv (by omega)] at w
    exact Or.inl w
  · rw [sd_sv (by omega)] at w1 w2 w3
    exact Or.inr ⟨b, hb, w1, w2, w3⟩
theorem sd_cellv (I : sd_I R fr rn om jc jb jv jm lk cb cv di hz co sa ow dn) (hn : n < 3) (hi : i < R) (hb : b < 16) (e : cb (n * 8 + i) = nI b) : cv (n * 8 + i) = co b := by
  rcases sd_cell I hn hi with w | ⟨b', hb', w1, w2, _⟩
  · exact absurd (e.symm.trans w.1) (sd_ne1 (by omega))
  · rw [sd_inj (e.symm.trans w1) (by omega) (by omega)]
    exact w2
theorem sd_cell1 {j : Nat} (I : sd_I R fr rn om jc jb jv jm lk cb cv di hz co sa ow dn) (hn : n < 3) (hi : i < R) (hj : j < R) (hb : b < 16) (e : cb (n * 8 + i) = nI b) (e' : cb (n * 8 + j) = nI b) : i = j := by
  have hR := I.1.2.2
  obtain ⟨hh, c', ec', z⟩ := I.2.1 n hn
  have w := z.2.1.2 i j hi hj
  rw [sd_sv (by omega), sd_sv (by omega)] at w
  rcases w (e.trans e'.symm) with w | w
  · exact absurd (e.symm.trans w) (sd_ne1 (by omega))
  · exact w
theorem sd_jn (I : sd_I R fr rn om jc jb jv jm lk cb cv di hz co sa ow dn) (hn : n < 3) : ∃ c, c ≤ 16 ∧ jc n = nI c ∧ (∀ i, i < c → ∃ b, b < 16 ∧ jb (n * 16 + i) = nI b ∧ (jv (n * 16 + i) = co b ∨ ∃ k, k < R ∧ cb (n * 8 + k) = nI b ∧ ¬ di (n * 8 + k) = 0)) ∧
    ∀ b, b < 16 → (ow b = nI n ↔ (∃ i, i < c ∧ jb (n * 16 + i) = nI b) ∨ ∃ k, k < R ∧ cb (n * 8 + k) = nI b ∧ ¬ di (n * 8 + k) = 0) := by
  have hR := I.1.2.2
  obtain ⟨hh, c, ec, z⟩ := I.2.1 n hn
  have hc := z.1.1
  have hD : ∀ b, sd_inD R (sd_s 8 cb n) (sd_s 8 di n) b ↔ ∃ k, k < R ∧ cb (n * 8 + k) = nI b ∧ ¬ di (n * 8 + k) = 0 := by
    intro b
    constructor
    · rintro ⟨k, hk, ek, dk⟩
      rw [sd_sv (by omega)] at ek dk
      exact ⟨k, hk, ek, dk⟩
    · rintro ⟨k, hk, ek, dk⟩
      exact ⟨k, hk, by rw [sd_sv (by omega)]; exact ek, by rw [sd_sv (by omega)]; exact dk⟩
  have hJ : ∀ b, sd_inJ c (sd_s 16 jb n) b ↔ ∃ k, k < c ∧ jb (n * 16 + k) = nI b := by
    intro b
    constructor
    · rintro ⟨k, hk, ek⟩
      rw [sd_sv (by omega)] at ek
      exact ⟨k, hk, ek⟩
    · rintro ⟨k, hk, ek⟩
      exact ⟨k, hk, by rw [sd_sv (by omega)]; exact ek⟩
  refine ⟨c, hc, ec, fun i hi => ?_, fun b hb => ?_⟩
  · obtain ⟨b, hb, e⟩ := z.1.2.1 i hi
    have w := (z.2.2 b hb).2.2 i hi e
    rw [hD b, sd_sv (by omega)] at w
    rw [sd_sv (by omega)] at e
    exact ⟨b, hb, e, w⟩
  · have w := (z.2.2 b hb).1
    rw [hD b, hJ b] at w
    exact w
end
end
section
/-! walks of the component: searches, the journal -/
section
variable {R n c k : Nat} {b v : Int32} {fr : Int32} {rn om jc jb jv js jm lk cb cv di hz : Nat → Int32} {co : Nat → Int32}
theorem sd_jrd {post : Int32 → Prop} (hn : n < 3) (hc : c ≤ 16) (ec : jc n = nI c) (h1 : (∀ i, i < c → ¬ jb (n * 16 + i) = b) → post (-1)) (h2 : ∀ i, i < c → jb (n * 16 + i) = b → post (nI (n * 16 + i))) : wpX_journaled post (fr, rn, om, jc, jb, jv, js, jm, lk, cb, cv, di, hz) (nI n) b := by
  have L : ∀ d i, i + d = c → (∀ j, j < i → ¬ jb (n * 16 + j) = b) → wX_journaled_5 post (nI n) b fr rn om jc jb jv js jm lk cb cv di hz (d + 1) (nI (n * 16 + i)) := by
    intro d
    induction d with
    | zero =>
      intro i hi hj
      rw [wX_journaled_5]
      simp (disch := omega) only [nI_clamp, ec, sd_m16, nI_add]
      exact ⟨vp_in_nI hn (by decide), br_t (nI_le (by omega) (by omega)) (h1 (fun k hk => hj k (by omega)))⟩
    | succ d ih =>
      intro i hi hj
      rw [wX_journaled_5]
      simp (disch := omega) only [nI_clamp, ec, sd_m16, nI_add, nI_1]
      refine ⟨vp_in_nI hn (by decide), br_f (nI_ge (by omega) (by omega)) ⟨vp_in_nI (by omega) (by decide), br_c (fun e => h2 i (by omega) e) (fun e => nm_e ?_)⟩⟩
      exact ih (i + 1) (by omega) (lt_s hj e)
  unfold wpX_journaled
  exact nm_r (sd_m16 n) ⟨c + 1, L c 0 (by omega) (fun j hj => by omega)⟩
theorem sd_cch {post : Int32 → Prop} (hn : n < 3) (ef : fr = nI R) (hR : R ≤ 8) (h1 : (∀ i, i < R → ¬ cb (n * 8 + i) = b) → post (-1)) (h2 : ∀ i, i < R → cb (n * 8 + i) = b → post (nI (n * 8 + i))) : wpX_cached post (fr, rn, om, jc, jb, jv, js, jm, lk, cb, cv, di, hz) (nI n) b := by
  subst ef
  have L : ∀ d i, i + d = R → (∀ j, j < i → ¬ cb (n * 8 + j) = b) → wX_cached_5 post (nI n) b (nI R) rn om jc jb jv js jm lk cb cv di hz (d + 1) (nI (n * 8 + i)) := by
    intro d
    induction d with
    | zero =>
      intro i hi hj
      rw [wX_cached_5]
      simp (disch := omega) only [nI_clamp, sd_m8, nI_add]
      exact br_t (nI_le (by omega) (by omega)) (h1 (fun k hk => hj k (by omega)))
    | succ d ih =>
      intro i hi hj
      rw [wX_cached_5]
      simp (disch := omega) only [nI_clamp, sd_m8, nI_add, nI_1]
      refine br_f (nI_ge (by omega) (by omega)) ⟨vp_in_nI (by omega) (by decide), br_c (fun e => h2 i (by omega) e) (fun e => nm_e ?_)⟩
      exact ih (i + 1) (by omega) (lt_s hj e)
  unfold wpX_cached
  exact nm_r (sd_m8 n) ⟨R + 1, L R 0 (by omega) (fun j hj => by omega)⟩
theorem sd_wj {post : SX → Prop} (hn : n < 3) (hc : c ≤ 16) (ec : jc n = nI c) (h1 : ∀ i, i < c → jb (n * 16 + i) = b → post (fr, rn, om, jc, jb, upd jv (n * 16 + i) v, js, jm, lk, cb, cv, di, hz))
    (h2 : (∀ i, i < c → ¬ jb (n * 16 + i) = b) → c < 16 ∧ post (fr, rn, om, upd jc n (nI (c + 1)), upd jb (n * 16 + c) b, upd jv (n * 16 + c) v, js, jm, lk, cb, cv, di, hz)) : wpX_writeJournal post (fr, rn, om, jc, jb, jv, js, jm, lk, cb, cv, di, hz) (nI n) b v := by
  unfold wpX_writeJournal
  refine sd_jrd hn hc ec (fun h => ?_) (fun i hi e => ?_)
  · obtain ⟨hc', hp⟩ := h2 h
    refine br_f sd_n1' ⟨vp_in_nI hn (by decide), nm_r (e' := nI (n * 16 + c)) ?_ ⟨vp_in_nI hn (by decide), vp_in_nI hn (by decide), nm_r (e' := upd jc n (nI (c + 1))) ?_ ?_⟩⟩
    · rw [nI_clamp (by omega), ec, sd_m16, nI_add]
    · rw [nI_clamp (by omega), ec, nI_1]
    · unfold wX_writeJournal_36
      exact ⟨vp_in_nI (by omega) (by decide), nm_r (sd_cl (by omega)) ⟨vp_in_nI (by omega) (by decide), nm_r (sd_cl (by omega)) hp⟩⟩
  · refine br_t (nI_pos' (by omega)) ?_
    have hp := h1 i hi e
    unfold wX_writeJournal_36
    refine ⟨vp_in_nI (by omega) (by decide), nm_r (e' := jb) ?_ ⟨vp_in_nI (by omega) (by decide), nm_r (sd_cl (by omega)) hp⟩⟩
    rw [nI_clamp (by omega), sd_uid e]
/-! the sum -/
def sd_sm (jb jv : Nat → Int32) (o : Nat) (s : Int32) : Nat → Int32
  | 0 => s
  | k + 1 => (sd_sm jb jv o s k * 31 + jb (o + k)) * 31 + jv (o + k)
theorem sd_sum {post : Int32 → Prop} (hn : n < 3) (hc : c ≤ 16) (ec : jc n = nI c) (h : post (sd_sm jb jv (n * 16) (7 + nI c) c)) : wpX_sumOf post (fr, rn, om, jc, jb, jv, js, jm, lk, cb, cv, di, hz) (nI n) := by
  have L : ∀ d i, i + d = c → wX_sumOf_15 post (nI n) fr rn om jc jb jv js jm lk cb cv di hz (d + 1) (sd_sm jb jv (n * 16) (7 + nI c) i) (nI (n * 16 + i)) := by
    intro d
    induction d with
    | zero =>
      intro i hi
      rw [wX_sumOf_15]
      simp (disch := omega) only [nI_clamp, ec, sd_m16, nI_add]
      refine ⟨vp_in_nI hn (by decide), br_t (nI_le (by omega) (by omega)) ?_⟩
      have q : i = c := by omega
      rw [q]
      exact h
    | succ d ih =>
      intro i hi
      rw [wX_sumOf_15]
      simp (disch := omega) only [nI_clamp, ec, sd_m16, nI_add, nI_1]
      refine ⟨vp_in_nI hn (by decide), br_f (nI_ge (by omega) (by omega)) ⟨vp_in_nI (by omega) (by decide), nm_e ⟨vp_in_nI (by omega) (by decide), nm_e (nm_e ?_)⟩⟩⟩
      exact ih (i + 1) (by omega)
  unfold wpX_sumOf
  refine And.intro (vp_in_nI hn (by decide)) (nm_r (e' := 7 + nI c) ?_ (nm_r (sd_m16 n) ⟨c + 1, L c 0 (by omega)⟩))
  rw [nI_clamp (by omega), ec]
theorem sd_mark {post : SX → Prop} (hn : n < 3) (hc : c ≤ 16) (ec : jc n = nI c) (h : post (fr, rn, om, jc, jb, jv, upd js n (sd_sm jb jv (n * 16) (7 + nI c) c), upd jm n 1, lk, cb, cv, di, hz)) : wpX_markJournal post (fr, rn, om, jc, jb, jv, js, jm, lk, cb, cv, di, hz) (nI n) := by
  unfold wpX_markJournal
  refine sd_sum hn hc ec ?_
  exact ⟨vp_in_nI hn (by decide), nm_r (sd_cl (by omega)) ⟨vp_in_nI hn (by decide), nm_r (e' := upd jm n 1) (by rw [nI_clamp (by omega), sd_b1]) h⟩⟩
theorem sd_whole0 {post : Int32 → Prop} (hn : n < 3) (e : jm n = 0) (h : post 0) : wpX_whole post (fr, rn, om, jc, jb, jv, js, jm, lk, cb, cv, di, hz) (nI n) := by
  unfold wpX_whole
  exact And.intro (vp_in_nI hn (by decide)) (br_t (by rw [nI_clamp (by omega)]; exact e) h)
theorem sd_whole1 {post : Int32 → Prop} (hn : n < 3) (hc : c ≤ 16) (ec : jc n = nI c) (e : ¬ jm n = 0) (es : js n = sd_sm jb jv (n * 16) (7 + nI c) c) (h : post 1) : wpX_whole post (fr, rn, om, jc, jb, jv, js, jm, lk, cb, cv, di, hz) (nI n) := by
  unfold wpX_whole
  exact And.intro (vp_in_nI hn (by decide)) (br_f (by rw [nI_clamp (by omega)]; exact e) (sd_sum hn hc ec ⟨vp_in_nI hn (by decide), br_t (by rw [nI_clamp (by omega)]; exact es.symm) h⟩))
theorem sd_empty {post : SX → Prop} (hn : n < 3) (h : post (fr, rn, om, upd jc n 0, jb, jv, js, upd jm n 0, lk, cb, cv, di, hz)) : wpX_emptyJournal post (fr, rn, om, jc, jb, jv, js, jm, lk, cb, cv, di, hz) (nI n) := by
  unfold wpX_emptyJournal
  exact And.intro (vp_in_nI hn (by decide)) (nm_r (sd_cl (by omega)) ⟨vp_in_nI hn (by decide), nm_r (e' := upd jm n 0) (by rw [nI_clamp (by omega), sd_b0]) h⟩)
theorem sd_bh {post : SX → Prop} (hn : n < 3) (hc : c ≤ 16) (ec : jc n = nI c) (hE : ∀ i, i < c → ∃ b, b < 16 ∧ jb (n * 16 + i) = nI b ∧ jv (n * 16 + i) = co b)
    (K : ∀ om' : Nat → Int32, (∀ b, b < 16 → ((∃ i, i < c ∧ jb (n * 16 + i) = nI b) → om' b = co b) ∧ (¬ (∃ i, i < c ∧ jb (n * 16 + i) = nI b) → om' b = om b)) → post (fr, rn, om', upd jc n 0, jb, jv, js, upd jm n 0, lk, cb, cv, di, hz)) : wpX_bringHome post (fr, rn, om, jc, jb, jv, js, jm, lk, cb, cv, di, hz) (nI n) := by
  have L : ∀ d i, ∀ om' : Nat → Int32, i + d = c → (∀ b, b < 16 → ((∃ j, j < i ∧ jb (n * 16 + j) = nI b) → om' b = co b) ∧ (¬ (∃ j, j < i ∧ jb (n * 16 + j) = nI b) → om' b = om b)) → wX_bringHome_5 post (nI n) fr (d + 1) (nI (n * 16 + i)) rn om' jc jb jv js jm lk cb cv di hz := by
    intro d
    induction d with
    | zero =>
      intro i om' hi ho
      have q : i = c := by omega
      subst q
      rw [wX_bringHome_5]
      simp (disch := omega) only [nI_clamp, ec, sd_m16, nI_add]
      exact ⟨vp_in_nI hn (by decide), br_t (nI_le (by omega) (by omega)) (sd_empty hn (K om' ho))⟩
    | succ d ih =>
      intro i om' hi ho
      obtain ⟨b, hb, eb, ev⟩ := hE i (by omega)
      rw [wX_bringHome_5]
      simp (disch := omega) only [nI_clamp, ec, sd_m16, nI_add, nI_1, eb, ev]
      refine ⟨vp_in_nI hn (by decide), br_f (nI_ge (by omega) (by omega)) ⟨vp_in_nI (by omega) (by decide), vp_in_nI (by omega) (by decide), vp_in_nI hb (by decide), nm_e (nm_e (ih (i + 1) _ (by omega) (fun b' hb' => ?_)))⟩⟩
      by_cases q : b' = b
      · subst q
        rw [pk_us]
        exact ⟨fun _ => rfl, fun w => absurd ⟨i, by omega, eb⟩ w⟩
      · rw [pk_un q]
        refine ⟨?_, fun w => (ho b' hb').2 (fun ⟨j, hj, ej⟩ => w ⟨j, by omega, ej⟩)⟩
        rintro ⟨j, hj, ej⟩
        refine (ho b' hb').1 ⟨j, ?_, ej⟩
        by_cases r : j = i
        · subst r
          exact absurd (sd_inj (ej.symm.trans eb) (by omega) (by omega)) q
        · omega
  unfold wpX_bringHome
  refine nm_r (sd_m16 n) ⟨c + 1, L c 0 om (by omega) (fun b hb => ⟨?_, fun _ => rfl⟩)⟩
  rintro ⟨j, hj, _⟩
  omega
theorem sd_drop {post : SX → Prop} (hk : k < 24) (h : post (fr, rn, om, jc, jb, jv, js, jm, lk, upd cb k (-1), cv, upd di k 0, hz)) : wpX_dropCell post (fr, rn, om, jc, jb, jv, js, jm, lk, cb, cv, di, hz) (nI k) := by
  unfold wpX_dropCell
  exact And.intro (vp_in_nI hk (by decide)) (nm_r (sd_cl (by omega)) ⟨vp_in_nI hk (by decide), nm_r (e' := upd di k 0) (by rw [nI_clamp (by omega), sd_b0]) h⟩)
end
end
section
/-! walks of the component that keep the relation: cells, journal, count -/
section
variable {R n i z b : Nat} {fr : Int32} {rn om jc jb jv js jm lk cb cv di hz : Nat → Int32} {co sa ow dn : Nat → Int32}
theorem sd_wjI {post : SX → Prop} (I : sd_I R fr rn om jc jb jv jm lk cb cv di hz co sa ow dn) (hn : n < 3) (hi : i < R) (e : cb (n * 8 + i) = nI b) (hb : b < 16) (hD : ¬ di (n * 8 + i) = 0)
    (K : ∀ jc' jb' jv' : Nat → Int32, sd_I R fr rn om jc' jb' jv' jm lk cb cv di hz co sa ow dn → sd_JV n b jc' jb' jv' co → post (fr, rn, om, jc', jb', jv', js, jm, lk, cb, cv, di, hz)) : wpX_writeJournal post (fr, rn, om, jc, jb, jv, js, jm, lk, cb, cv, di, hz) (nI n) (nI b) (co b) := by
  obtain ⟨hh, c, ec, z⟩ := I.2.1 n hn
  have hc := z.1.1
  refine sd_wj hn hc ec (fun k hk ek => ?_) (fun hno => ?_)
  · refine K jc jb _ (sd_g1 I hn (by omega) ek hb) ⟨c, ec, hc, ⟨k, hk, by rw [sd_sv (by omega)]; exact ek⟩, fun j hj ej => ?_⟩
    have q : j = k := z.1.2.2 j k hj hk (by rw [ej, sd_sv (by omega), ek])
    subst q
    rw [sd_sv (by omega), pk_us]
  · obtain ⟨h16, I'⟩ := sd_g2 I hn ec hc hno hb hi e hD
    refine ⟨h16, K _ _ _ I' ⟨c + 1, pk_us, by omega, ⟨c, by omega, by rw [sd_sv h16, pk_us]⟩, fun j hj ej => ?_⟩⟩
    by_cases q : j = c
    · subst q
      rw [sd_sv (by omega), pk_us]
    · rw [sd_sv (by omega), pk_un (by omega)] at ej
      exact absurd ej (hno j (by omega))
theorem sd_fc57 {post : Int32 → SX → Prop} (I : sd_I R fr rn om jc jb jv jm lk cb cv di hz co sa ow dn) (hn : n < 3) (hi : i < R) (hz' : z < R) (hno : ∀ j, j < R → ¬ cb (n * 8 + j) = -1)
    (K : ∀ (i : Nat) (jc' jb' jv' cb' di' hz' : Nat → Int32), i < R → sd_I R fr rn om jc' jb' jv' jm lk cb' cv di' hz' co sa ow dn → cb' (n * 8 + i) = -1 → (∀ b, b < 16 → (∀ j, j < R → ¬ cb (n * 8 + j) = nI b) → ∀ j, j < R → ¬ cb' (n * 8 + j) = nI b) → post (nI (n * 8 + i)) (fr, rn, om, jc', jb', jv', js, jm, lk, cb', cv, di', hz')) :
    wX_freeCell_57 post (nI n) (nI (n * 8 + i)) (nI z) (nI n) fr rn om jc jb jv js jm lk cb cv di hz := by
  have hR := I.1.2.2
  have I1 := sd_gh I hn hz'
  have hnew : ∀ b, b < 16 → (∀ j, j < R → ¬ cb (n * 8 + j) = nI b) → ∀ j, j < R → ¬ upd cb (n * 8 + i) (-1) (n * 8 + j) = nI b := by
    intro b hb h j hj
    by_cases q : j = i
    · subst q
      rw [pk_us]
      exact fun w => sd_ne1 (by omega) w.symm
    · rw [pk_un (by omega)]
      exact h j hj
  unfold wX_freeCell_57
  refine ⟨vp_in_nI hn (by decide), nm_r (sd_cl (by omega)) ⟨vp_in_nI (by omega) (by decide), br_c (fun d => ?_) (fun d => ?_)⟩⟩
  · rw [nI_clamp (by omega)] at d
    unfold wX_freeCell_84
    refine sd_drop (by omega) (K i jc jb jv _ _ _ hi ?_ pk_us hnew)
    rw [sd_uid d]
    exact sd_g4 I1 hn hi d
  · rw [nI_clamp (by omega)] at d
    rcases sd_cell I hn hi with w | ⟨b, hb, e, ev, _⟩
    · exact absurd w.1 (hno i hi)
    · refine ⟨vp_in_nI (by omega) (by decide), vp_in_nI (by omega) (by decide), ?_⟩
      rw [nI_clamp (by omega), e, ev]
      refine sd_wjI I1 hn hi e hb d (fun jc' jb' jv' I2 hJ => ?_)
      have I3 := sd_g3 I2 hn hi e hb hJ
      have I4 := sd_g4 I3 hn hi pk_us
      dsimp only
      unfold wX_freeCell_84
      exact sd_drop (by omega) (K i jc' jb' jv' _ _ _ hi I4 pk_us hnew)
theorem sd_fc {post : Int32 → SX → Prop} (I : sd_I R fr rn om jc jb jv jm lk cb cv di hz co sa ow dn) (hn : n < 3)
    (K : ∀ (i : Nat) (jc' jb' jv' cb' di' hz' : Nat → Int32), i < R → sd_I R fr rn om jc' jb' jv' jm lk cb' cv di' hz' co sa ow dn → cb' (n * 8 + i) = -1 → (∀ b, b < 16 → (∀ j, j < R → ¬ cb (n * 8 + j) = nI b) → ∀ j, j < R → ¬ cb' (n * 8 + j) = nI b) → post (nI (n * 8 + i)) (fr, rn, om, jc', jb', jv', js, jm, lk, cb', cv, di', hz')) :
    wpX_freeCell post (fr, rn, om, jc, jb, jv, js, jm, lk, cb, cv, di, hz) (nI n) := by
  have hR := I.1.2.2
  unfold wpX_freeCell
  refine sd_cch hn I.1.1 hR (fun hno => ?_) (fun i hi e => ?_)
  · refine br_t sd_n1 ?_
    obtain ⟨⟨h, hh, eh⟩, _⟩ := I.2.1 n hn
    refine ⟨vp_in_nI hn (by decide), nm_r (e' := nI (n * 8 + h)) (by rw [nI_clamp (by omega), eh, sd_m8, nI_add]) ⟨vp_in_nI hn (by decide), ?_⟩⟩
    by_cases q : h + 1 < R
    · refine br_t ?_ ⟨vp_in_nI hn (by decide), ?_⟩
      · rw [nI_clamp (by omega), eh, nI_1, I.1.1]
        exact nI_lt q (by omega)
      · rw [nI_clamp (by omega), eh, nI_1]
        exact sd_fc57 I hn hh q hno K
    · refine br_f ?_ ?_
      · rw [nI_clamp (by omega), eh, nI_1, I.1.1]
        exact nI_nlt (by omega) (by omega)
      · exact sd_fc57 (z := 0) I hn hh (by omega) hno K
  · exact br_f (nI_pos (by omega)) (K i jc jb jv cb di hz hi I e (fun b hb h => h))
theorem sd_fg {post : SX → Prop} (I : sd_I R fr rn om jc jb jv jm lk cb cv di hz co sa ow dn) (hn : n < 3) (hb : b < 16) (hD : ∀ i, i < R → cb (n * 8 + i) = nI b → di (n * 8 + i) = 0)
    (K : ∀ cb' di' : Nat → Int32, sd_I R fr rn om jc jb jv jm lk cb' cv di' hz co sa ow dn → (∀ j, j < R → ¬ cb' (n * 8 + j) = nI b) → post (fr, rn, om, jc, jb, jv, js, jm, lk, cb', cv, di', hz)) : wpX_forget post (fr, rn, om, jc, jb, jv, js, jm, lk, cb, cv, di, hz) (nI n) (nI b) := by
  have hR := I.1.2.2
  unfold wpX_forget
  refine sd_cch hn I.1.1 hR (fun hno => ?_) (fun i hi e => ?_)
  · exact br_t sd_n1 (K cb di I hno)
  · refine br_f (nI_pos (by omega)) ?_
    have d := hD i hi e
    refine sd_drop (by omega) (K _ _ ?_ (fun j hj => ?_))
    · rw [sd_uid d]
      exact sd_g4 I hn hi d
    · by_cases q : j = i
      · subst q
        rw [pk_us]
        exact fun w => sd_ne1 (by omega) w.symm
      · rw [pk_un (by omega)]
        exact fun w => q (sd_cell1 I hn hj hi hb w e)
theorem sd_bi {post : Int32 → SX → Prop} (I : sd_I R fr rn om jc jb jv jm lk cb cv di hz co sa ow dn) (hn : n < 3) (hb : b < 16) (hl : ¬ lk (n * 16 + b) = 0) (ho : ow b = -4 ∨ ow b = nI n)
    (K : ∀ (i : Nat) (jc' jb' jv' cb' cv' di' hz' : Nat → Int32), i < R → sd_I R fr rn om jc' jb' jv' jm lk cb' cv' di' hz' co sa ow dn → cb' (n * 8 + i) = nI b → post (nI (n * 8 + i)) (fr, rn, om, jc', jb', jv', js, jm, lk, cb', cv', di', hz')) :
    wpX_bringIn post (fr, rn, om, jc, jb, jv, js, jm, lk, cb, cv, di, hz) (nI n) (nI b) := by
  have hR := I.1.2.2
  unfold wpX_bringIn
  refine sd_cch hn I.1.1 hR (fun hno => ?_) (fun i hi e => ?_)
  · refine br_t sd_n1 ?_
    refine sd_fc I hn (fun i jc' jb' jv' cb' di' hz' hi I' e' hnew => ?_)
    have hno' := hnew b hb hno
    obtain ⟨c, hc, ec, hE, hW⟩ := sd_jn I' hn
    dsimp only
    refine sd_jrd hn hc ec (fun h => ?_) (fun k hk ek => ?_)
    · have hw : ¬ ow b = nI n := by
        rw [hW b hb]
        rintro (⟨k, hk, ek⟩ | ⟨k, hk, ek, _⟩)
        · exact h k hk ek
        · exact hno' k hk ek
      have e4 : ow b = -4 := ho.resolve_right hw
      have ev : om b = co b := by
        rcases I'.2.2.2.1 b hb with w | ⟨m, hm, w⟩
        · rw [I'.2.2.2.2.1 b hb, w.2]
        · exact absurd (w.symm.trans e4) (sd_ne4 (by omega))
      refine ⟨vp_in_nI (by omega) (by decide), nm_r (sd_cl (by omega)) (br_t sd_n1 ⟨vp_in_nI hb (by decide), vp_in_nI (by omega) (by decide), nm_r (e' := upd cv (n * 8 + i) (co b)) ?_ ?_⟩)⟩
      · simp (disch := omega) only [nI_clamp, ev]
      · exact K i jc' jb' jv' _ _ di' hz' hi (sd_g5 I' hn hi e' hb hno' hl) pk_us
    · obtain ⟨b', hb', eb', w⟩ := hE k hk
      have q : b' = b := sd_inj (eb'.symm.trans ek) (by omega) (by omega)
      subst q
      have ev : jv' (n * 16 + k) = co b' := by
        rcases w with w | ⟨j, hj, ej, _⟩
        · exact w
        · exact absurd ej (hno' j hj)
      refine ⟨vp_in_nI (by omega) (by decide), nm_r (sd_cl (by omega)) (br_f (nI_pos (by omega)) ⟨vp_in_nI (by omega) (by decide), vp_in_nI (by omega) (by decide), nm_r (e' := upd cv (n * 8 + i) (co b')) ?_ ?_⟩)⟩
      · simp (disch := omega) only [nI_clamp, ev]
      · exact K i jc' jb' jv' _ _ di' hz' hi (sd_g5 I' hn hi e' hb hno' hl) pk_us
  · exact br_f (nI_pos (by omega)) (K i jc jb jv cb cv di hz hi I e)
theorem sd_fill {post : SX → Prop} (I : sd_I R fr rn om jc jb jv jm lk cb cv di hz co sa ow dn) (hn : n < 3)
    (K : ∀ jc' jb' jv' di' : Nat → Int32, sd_I R fr rn om jc' jb' jv' jm lk cb cv di' hz co sa ow dn → (∀ i, i < R → di' (n * 8 + i) = 0) → post (fr, rn, om, jc', jb', jv', js, jm, lk, cb, cv, di', hz)) : wpX_fillJournal post (fr, rn, om, jc, jb, jv, js, jm, lk, cb, cv, di, hz) (nI n) := by
  have hR := I.1.2.2
  have ef := I.1.1
  subst ef
  have L : ∀ d i, ∀ jc' jb' jv' di' : Nat → Int32, i + d = R → sd_I R (nI R) rn om jc' jb' jv' jm lk cb cv di' hz co sa ow dn → (∀ j, j < i → di' (n * 8 + j) = 0) → wX_fillJournal_5 post (nI n) (d + 1) (nI (n * 8 + i)) (nI R) rn om jc' jb' jv' js jm lk cb cv di' hz := by
    intro d
    induction d with
    | zero =>
      intro i jc' jb' jv' di' hi I' h
      rw [wX_fillJournal_5]
      simp (disch := omega) only [nI_clamp, sd_m8, nI_add]
      exact br_t (nI_le (by omega) (by omega)) (K jc' jb' jv' di' I' (fun j hj => h j (by omega)))
    | succ d ih =>
      intro i jc' jb' jv' di' hi I' h
      have hi' : i < R := by omega
      rw [wX_fillJournal_5]
      simp (disch := omega) only [nI_clamp, sd_m8, nI_add, nI_1]
      refine br_f (nI_ge (by omega) (by omega)) ⟨vp_in_nI (by omega) (by decide), br_c (fun d0 => nm_e ?_) (fun d0 => ⟨vp_in_nI (by omega) (by decide), vp_in_nI (by omega) (by decide), ?_⟩)⟩
      · exact ih (i + 1) jc' jb' jv' di' (by omega) I' (lt_s h d0)
      · rcases sd_cell I' hn hi' with w | ⟨b, hb, e, ev, _⟩
        · exact absurd w.2 d0
        · rw [e, ev]
          refine sd_wjI I' hn hi' e hb d0 (fun jc2 jb2 jv2 I2 hJ => ?_)
          dsimp only
          refine ⟨vp_in_nI (by omega) (by decide), nm_r (e' := upd di' (n * 8 + i) 0) ?_ (nm_r (e' := nI (n * 8 + i + 1)) ?_ ?_)⟩
          · simp (disch := omega) only [nI_clamp, sd_b0]
          · first | rfl | exact nI_1 _
          · refine ih (i + 1) jc2 jb2 jv2 _ (by omega) (sd_g3 I2 hn hi' e hb hJ) (fun j hj => ?_)
            by_cases q : j = i
            · rw [q, pk_us]
            · rw [pk_un (by omega)]
              exact h j (by omega)
  unfold wpX_fillJournal
  exact nm_r (sd_m8 n) ⟨R + 1, L R 0 jc jb jv di (by omega) I (fun j hj => by omega)⟩
theorem sd_uc {post : Int32 → Prop} (I : sd_I R fr rn om jc jb jv jm lk cb cv di hz co sa ow dn) (hn : n < 3) (h : post (nI (sd_cnt (fun b => ow b = nI n) 16))) : wpX_unsafeCount post (fr, rn, om, jc, jb, jv, js, jm, lk, cb, cv, di, hz) (nI n) := by
  have hR := I.1.2.2
  have ef := I.1.1
  subst ef
  obtain ⟨_, c, ec, z⟩ := I.2.1 n hn
  have hc := z.1.1
  have L : ∀ d i, i + d = R → wX_unsafeCount_12 post (nI n) (nI R) rn om jc jb jv js jm lk cb cv di hz (d + 1) (nI (sd_cnt (fun b => sd_inJ c (sd_s 16 jb n) b ∨ sd_inD i (sd_s 8 cb n) (sd_s 8 di n) b) 16)) (nI (n * 8 + i)) := by
    intro d
    induction d with
    | zero =>
      intro i hi
      have q : i = R := by omega
      rw [q, sd_q4 z.2.2, wX_unsafeCount_12]
      simp (disch := omega) only [nI_clamp, sd_m8, nI_add]
      exact br_t (nI_le (by omega) (by omega)) h
    | succ d ih =>
      intro i hi
      have hi' : i < R := by omega
      have IH := ih (i + 1) (by omega)
      rw [wX_unsafeCount_12]
      simp (disch := omega) only [nI_clamp, sd_m8, nI_add, nI_1]
      refine br_f (nI_ge (by omega) (by omega)) ⟨vp_in_nI (by omega) (by decide), br_c (fun d0 => nm_e ?_) (fun d0 => ⟨vp_in_nI (by omega) (by decide), ?_⟩)⟩
      · rw [sd_q1 (by rw [sd_sv (by omega)]; exact d0)] at IH
        exact IH
      · rcases sd_cell I hn hi' with w | ⟨b, hb, e, ev, _⟩
        · exact absurd w.2 d0
        · rw [e]
          have es : sd_s 8 cb n i = nI b := by rw [sd_sv (by omega)]; exact e
          have ds : ¬ sd_s 8 di n i = 0 := by rw [sd_sv (by omega)]; exact d0
          refine sd_jrd hn hc ec (fun hno => ?_) (fun k hk ek => ?_)
          · have hJ : ¬ sd_inJ c (sd_s 16 jb n) b := by
              rintro ⟨k, hk, ek⟩
              rw [sd_sv (by omega)] at ek
              exact hno k hk ek
            rw [sd_q3 z.2.1 hi' es hb ds hJ] at IH
            exact br_f sd_n1' (nm_e (nm_e IH))
          · have hJ : sd_inJ c (sd_s 16 jb n) b := ⟨k, hk, by rw [sd_sv (by omega)]; exact ek⟩
            rw [sd_q2 es hb ds hJ] at IH
            exact br_t (nI_pos' (by omega)) (nm_e IH)
  have h0 := L R 0 (by omega)
  rw [sd_q0 z.1] at h0
  unfold wpX_unsafeCount
  exact And.intro (vp_in_nI hn (by decide)) (nm_r (e' := nI c) (by rw [nI_clamp (by omega)]; exact ec) (nm_r (sd_m8 n) ⟨R + 1, h0⟩))
theorem sd_iu {post : Int32 → Prop} (I : sd_I R fr rn om jc jb jv jm lk cb cv di hz co sa ow dn) (hn : n < 3) (hb : b < 16) (h1 : ow b = nI n → post 1) (h0 : ¬ ow b = nI n → post 0) : wpX_isUnsafe post (fr, rn, om, jc, jb, jv, js, jm, lk, cb, cv, di, hz) (nI n) (nI b) := by
  have hR := I.1.2.2
  obtain ⟨c, hc, ec, hE, hW⟩ := sd_jn I hn
  unfold wpX_isUnsafe
  refine sd_jrd hn hc ec (fun h => ?_) (fun k hk ek => ?_)
  · refine br_t sd_n1 (sd_cch hn I.1.1 hR (fun h' => ?_) (fun i hi e => ?_))
    · refine br_t sd_n1 (h0 ?_)
      rw [hW b hb]
      rintro (⟨k, hk, ek⟩ | ⟨k, hk, ek, _⟩)
      · exact h k hk ek
      · exact h' k hk ek
    · refine br_f (nI_pos (by omega)) ⟨vp_in_nI (by omega) (by decide), br_c (fun d => h0 ?_) (fun d => h1 ?_)⟩
      · rw [nI_clamp (by omega)] at d
        rw [hW b hb]
        rintro (⟨k, hk, ek⟩ | ⟨k, hk, ek, dk⟩)
        · exact h k hk ek
        · have q := sd_cell1 I hn hk hi hb ek e
          subst q
          exact dk d
      · rw [nI_clamp (by omega)] at d
        exact (hW b hb).mpr (Or.inr ⟨i, hi, e, d⟩)
  · exact br_f (nI_pos (by omega)) (h1 ((hW b hb).mpr (Or.inl ⟨k, hk, ek⟩)))
theorem sd_ms {post : Int32 → SX → Prop} (I : sd_I R fr rn om jc jb jv jm lk cb cv di hz co sa ow dn) (hn : n < 3)
    (K : ∀ om' jc' jb' jv' js' jm' di' : Nat → Int32, sd_I R fr rn om' jc' jb' jv' jm' lk cb cv di' hz co (sd_pa 16 co sa ow (nI n)) (sd_pa 16 (fun _ => -4) ow ow (nI n)) dn → post (nI (sd_cnt (fun b => ow b = nI n) 16)) (fr, rn, om', jc', jb', jv', js', jm', lk, cb, cv, di', hz)) : wpX_makeSafe post (fr, rn, om, jc, jb, jv, js, jm, lk, cb, cv, di, hz) (nI n) := by
  unfold wpX_makeSafe
  refine sd_uc I hn ?_
  refine sd_fill I hn (fun jc' jb' jv' di' I' hd => ?_)
  obtain ⟨c, hc, ec, hE, hW⟩ := sd_jn I' hn
  refine sd_mark hn hc ec ?_
  refine sd_bh (co := co) hn hc ec (fun i hi => ?_) (fun om' ho => ?_)
  · obtain ⟨b, hb, e, w⟩ := hE i hi
    refine ⟨b, hb, e, ?_⟩
    rcases w with w | ⟨k, hk, _, dk⟩
    · exact w
    · exact absurd (hd k hk) dk
  · refine K _ _ _ _ _ _ _ (sd_g8 I' hn ec hc hd ho (fun m hm => ?_))
    by_cases q : m = n
    · rw [q, pk_us]
    · rw [pk_un q, pk_un q]
      exact I.2.2.2.2.2.2 m hm
end
end
section
/-! taking a lock, reading and writing a block -/
section
variable {R n o b : Nat} {md v : Int32} {fr : Int32} {rn om jc jb jv js jm lk cb cv di hz : Nat → Int32} {co sa ow dn : Nat → Int32} {sa1 ow1 : Nat → Int32}
theorem sd_sb19 {post : SX → Prop} (I : sd_I R fr rn om jc jb jv jm lk cb cv di hz co sa ow dn) (ho : o < 3) (hb : b < 16) (hw : ¬ ow b = nI o) (hl : ¬ lk (o * 16 + b) = 0) (hmd : md = 1 ∨ md = 2)
    (K : ∀ (x : Int32) (cb' di' : Nat → Int32), (x = 0 ∨ (x = 1 ∧ md = 1)) → sd_I R fr rn om jc jb jv jm (upd lk (o * 16 + b) x) cb' cv di' hz co sa ow dn → post (fr, rn, om, jc, jb, jv, js, jm, upd lk (o * 16 + b) x, cb', cv, di', hz)) : wX_stepBack_19 post (nI o) (nI b) md fr rn om jc jb jv js jm lk cb cv di hz := by
  unfold wX_stepBack_19
  rw [sd_m16, nI_add]
  by_cases q : md = 2
  · refine br_t q (sd_fg I ho hb (fun i hi e => ?_) (fun cb' di' I' hno => ?_))
    · by_cases d : di (o * 8 + i) = 0
      · exact d
      · obtain ⟨c, hc, ec, hE, hW⟩ := sd_jn I ho
        exact absurd ((hW b hb).mpr (Or.inr ⟨i, hi, e, d⟩)) hw
    · dsimp only
      refine ⟨vp_in_nI (by omega) (by decide), nm_r (sd_cl (by omega)) (K 0 cb' di' (Or.inl rfl) (sd_g7 I' ho hb (sd_Lset I.2.2.1 ho hb (Or.inl rfl) (fun h => absurd rfl h) (fun h => absurd h (by decide))) (fun _ => hno) (fun w => absurd w hw)))⟩
  · refine br_f q ⟨vp_in_nI (by omega) (by decide), nm_r (sd_cl (by omega)) (K 1 cb di (Or.inr ⟨rfl, hmd.resolve_right q⟩) (sd_g7 I ho hb (sd_Lset I.2.2.1 ho hb (Or.inr (Or.inl rfl)) (fun _ m hm hne w => hl (I.2.2.1.2 m o b hm ho hb hne w)) (fun h => absurd h sd_12)) (fun h => absurd h sd_10) (fun w => absurd w hw)))⟩
/-- what the reference does first: another owner is settled -/
def sd_TK (n b : Nat) (co sa ow sa1 ow1 : Nat → Int32) : Prop :=
  (∃ o, o < 3 ∧ o ≠ n ∧ ow b = nI o ∧ sa1 = sd_pa 16 co sa ow (nI o) ∧ ow1 = sd_pa 16 (fun _ => -4) ow ow (nI o)) ∨ ((ow b = -4 ∨ ow b = nI n) ∧ sa1 = sa ∧ ow1 = ow)
theorem sd_sb {post : SX → Prop} (I : sd_I R fr rn om jc jb jv jm lk cb cv di hz co sa ow dn) (ho : o < 3) (hn : n < 3) (hne : o ≠ n) (hb : b < 16) (hl : ¬ lk (o * 16 + b) = 0) (hmd : md = 1 ∨ md = 2) (T : sd_TK n b co sa ow sa1 ow1)
    (K : ∀ (x : Int32) (om' jc' jb' jv' js' jm' cb' di' sa' ow' : Nat → Int32), (x = 0 ∨ (x = 1 ∧ md = 1)) → sd_I R fr rn om' jc' jb' jv' jm' (upd lk (o * 16 + b) x) cb' cv di' hz co sa' ow' dn → sd_TK n b co sa' ow' sa1 ow1 → post (fr, rn, om', jc', jb', jv', js', jm', upd lk (o * 16 + b) x, cb', cv, di', hz)) :
    wpX_stepBack post (fr, rn, om, jc, jb, jv, js, jm, lk, cb, cv, di, hz) (nI o) (nI b) md := by
  unfold wpX_stepBack
  refine sd_iu I ho hb (fun w => ?_) (fun w => ?_)
  · refine br_f sd_10 (sd_ms I ho (fun om' jc' jb' jv' js' jm' di' I' => ?_))
    dsimp only
    refine sd_sb19 I' ho hb (sd_owy ho hb) hl hmd (fun x cb' di'' hx I'' => K x om' jc' jb' jv' js' jm' cb' di'' _ _ hx I'' ?_)
    rcases T with ⟨o', ho', hne', w', e1, e2⟩ | ⟨w', _⟩
    · have q : o' = o := sd_inj (w'.symm.trans w) (by omega) (by omega)
      subst q
      exact Or.inr ⟨Or.inl (sd_pat hb w), e1, e2⟩
    · rcases w' with w' | w'
      · exact absurd (w.symm.trans w') (sd_ne4 (by omega))
      · exact absurd (sd_inj (w.symm.trans w') (by omega) (by omega)) hne
  · exact br_t rfl (sd_sb19 I ho hb w hl hmd (fun x cb' di' hx I' => K x om jc jb jv js jm cb' di' sa ow hx I' T))
theorem sd_tk {post : SX → Prop} (I : sd_I R fr rn om jc jb jv jm lk cb cv di hz co sa ow dn) (hn : n < 3) (hb : b < 16) (hmd : md = 1 ∨ md = 2) (T : sd_TK n b co sa ow sa1 ow1)
    (K : ∀ om' jc' jb' jv' js' jm' lk' cb' di' : Nat → Int32, sd_I R fr rn om' jc' jb' jv' jm' lk' cb' cv di' hz co sa1 ow1 dn → (ow1 b = -4 ∨ ow1 b = nI n) → ¬ lk' (n * 16 + b) = 0 → (md = 2 → lk' (n * 16 + b) = 2) → post (fr, rn, om', jc', jb', jv', js', jm', lk', cb', cv, di', hz)) :
    wpX_take post (fr, rn, om, jc, jb, jv, js, jm, lk, cb, cv, di, hz) (nI n) (nI b) md := by
  have L : ∀ d k, ∀ om' jc' jb' jv' js' jm' lk' cb' di' sa' ow' : Nat → Int32, k + d = 3 → sd_I R fr rn om' jc' jb' jv' jm' lk' cb' cv di' hz co sa' ow' dn → sd_TK n b co sa' ow' sa1 ow1 → (∀ o, o < k → o ≠ n → ¬ lk' (o * 16 + b) = 2 ∧ (md = 2 → lk' (o * 16 + b) = 0)) → wX_take_3 post (nI n) (nI b) md (d + 1) (nI k) fr rn om' jc' jb' jv' js' jm' lk' cb' cv di' hz := by
    intro d
    induction d with
    | zero =>
      intro k om' jc' jb' jv' js' jm' lk' cb' di' sa' ow' hk I' T' hl
      have q : k = 3 := by omega
      subst q
      have hT : (ow' b = -4 ∨ ow' b = nI n) ∧ sa1 = sa' ∧ ow1 = ow' := by
        rcases T' with ⟨o, ho, hne, w, _⟩ | h
        · exfalso
          obtain ⟨_, c, ec, z⟩ := I'.2.1 o ho
          have w2 := (z.2.2 b hb).2.1 w
          rw [sd_sv hb] at w2
          exact (hl o ho hne).1 w2
        · exact h
      obtain ⟨hw, e1, e2⟩ := hT
      subst e1 e2
      rw [wX_take_3]
      simp (disch := omega) only [nI_clamp, sd_m16, nI_add]
      refine br_t (nI_le (a := 3) (b := 3) (by omega) (by omega)) ⟨vp_in_nI (by omega) (by decide), br_c (fun h => ?_) (fun h => ⟨vp_in_nI (by omega) (by decide), nm_e ?_⟩)⟩
      · have hlk := I'.2.2.1.1 n b hn hb
        refine K om' jc' jb' jv' js' jm' lk' cb' di' I' hw (fun w => ?_) (fun w => ?_)
        · rw [w] at h
          rcases hmd with r | r
          · rw [r] at h
            exact absurd h (by decide)
          · rw [r] at h
            exact absurd h (by decide)
        · rw [w] at h
          rcases hlk with r | r | r
          · rw [r] at h
            exact absurd h (by decide)
          · rw [r] at h
            exact absurd h (by decide)
          · exact r
      · have hx : md = 0 ∨ md = 1 ∨ md = 2 := Or.inr hmd
        have hx0 : ¬ md = 0 := by
          rcases hmd with r | r
          · rw [r]; decide
          · rw [r]; decide
        refine K om' jc' jb' jv' js' jm' _ cb' di' (sd_g7 I' hn hb (sd_Lset I'.2.2.1 hn hb hx (fun _ m hm hne => (hl m hm hne).1) (fun e m hm hne => (hl m hm hne).2 e)) (fun w => absurd w hx0) (fun w => ?_)) hw (by rw [pk_us]; exact hx0) (fun w => by rw [pk_us]; exact w)
        obtain ⟨_, c, ec, z⟩ := I'.2.1 n hn
        have w2 := (z.2.2 b hb).2.1 w
        rw [sd_sv hb] at w2
        rw [w2] at h
        rcases hmd with r | r
        · rw [r] at h
          exact absurd (by decide) h
        · exact r
    | succ d ih =>
      intro k om' jc' jb' jv' js' jm' lk' cb' di' sa' ow' hk I' T' hl
      rw [wX_take_3]
      simp (disch := omega) only [nI_clamp, sd_m16, nI_add, nI_1]
      refine br_f (nI_ge (b := 3) (by omega) (by omega)) (br_c (fun e => nm_e ?_) (fun e => ⟨vp_in_nI (by omega) (by decide), br_c (fun h0 => nm_e ?_) (fun h0 => ?_)⟩))
      · have q : k = n := sd_inj e (by omega) (by omega)
        refine ih (k + 1) om' jc' jb' jv' js' jm' lk' cb' di' sa' ow' (by omega) I' T' (fun o ho hne => ?_)
        exact hl o (by omega) hne
      · refine ih (k + 1) om' jc' jb' jv' js' jm' lk' cb' di' sa' ow' (by omega) I' T' (fun o ho hne => ?_)
        by_cases r : o = k
        · subst r
          rw [h0]
          exact ⟨by decide, fun _ => rfl⟩
        · exact hl o (by omega) hne
      · have hne : k ≠ n := fun w => e (congrArg nI w)
        refine sd_sb I' (by omega) hn hne hb h0 hmd T' (fun x om2 jc2 jb2 jv2 js2 jm2 cb2 di2 sa2 ow2 hx I2 T2 => ?_)
        dsimp only
        refine nm_r (e' := nI (k + 1)) ?_ ?_
        · first | with_reducible rfl | exact nI_1 _
        · refine ih (k + 1) om2 jc2 jb2 jv2 js2 jm2 _ cb2 di2 sa2 ow2 (by omega) I2 T2 (fun o ho hne' => ?_)
          by_cases r : o = k
          · subst r
            rw [pk_us]
            rcases hx with r | ⟨r, r'⟩
            · rw [r]
              exact ⟨by decide, fun _ => rfl⟩
            · rw [r, r']
              exact ⟨by decide, fun w => absurd w (by decide)⟩
          · rw [pk_un (by omega)]
            exact hl o (by omega) hne'
  unfold wpX_take
  exact Exists.intro 4 (L 3 0 om jc jb jv js jm lk cb di sa ow (by omega) I T (fun o ho => by omega))
theorem sd_rb {post : Int32 → SX → Prop} (I : sd_I R fr rn om jc jb jv jm lk cb cv di hz co sa ow dn) (hn : n < 3) (hb : b < 16) (T : sd_TK n b co sa ow sa1 ow1)
    (K : ∀ om' jc' jb' jv' js' jm' lk' cb' cv' di' hz' : Nat → Int32, sd_I R fr rn om' jc' jb' jv' jm' lk' cb' cv' di' hz' co sa1 ow1 dn → post (co b) (fr, rn, om', jc', jb', jv', js', jm', lk', cb', cv', di', hz')) :
    wpX_readBlock post (fr, rn, om, jc, jb, jv, js, jm, lk, cb, cv, di, hz) (nI n) (nI b) := by
  have hR := I.1.2.2
  unfold wpX_readBlock
  refine sd_tk I hn hb (Or.inl rfl) T (fun om' jc' jb' jv' js' jm' lk' cb' di' I1 hw hl _ => ?_)
  dsimp only
  refine sd_bi I1 hn hb hl hw (fun i jc2 jb2 jv2 cb2 cv2 di2 hz2 hi I2 e => ?_)
  dsimp only
  refine ⟨vp_in_nI (by omega) (by decide), ?_⟩
  rw [nI_clamp (by omega), sd_cellv I2 hn hi hb e]
  exact K _ _ _ _ _ _ _ _ _ _ _ I2
theorem sd_wb {post : SX → Prop} (I : sd_I R fr rn om jc jb jv jm lk cb cv di hz co sa ow dn) (hn : n < 3) (hb : b < 16) (T : sd_TK n b co sa ow sa1 ow1)
    (K : ∀ om' jc' jb' jv' js' jm' lk' cb' cv' di' hz' : Nat → Int32, sd_I R fr rn om' jc' jb' jv' jm' lk' cb' cv' di' hz' (upd co b v) sa1 (upd ow1 b (nI n)) dn → post (fr, rn, om', jc', jb', jv', js', jm', lk', cb', cv', di', hz')) :
    wpX_writeBlock post (fr, rn, om, jc, jb, jv, js, jm, lk, cb, cv, di, hz) (nI n) (nI b) v := by
  have hR := I.1.2.2
  unfold wpX_writeBlock
  refine sd_tk I hn hb (Or.inr rfl) T (fun om' jc' jb' jv' js' jm' lk' cb' di' I1 hw hl h2 => ?_)
  dsimp only
  refine sd_bi I1 hn hb hl hw (fun i jc2 jb2 jv2 cb2 cv2 di2 hz2 hi I2 e => ?_)
  dsimp only
  refine ⟨vp_in_nI (by omega) (by decide), nm_r (sd_cl (by omega)) ⟨vp_in_nI (by omega) (by decide), nm_r (e' := upd di2 (n * 8 + i) 1) ?_ ?_⟩⟩
  · rw [nI_clamp (by omega), sd_b1]
  · exact K _ _ _ _ _ _ _ _ _ _ _ (sd_g6 I2 hn hi e hb (h2 rfl))
end
end
section
/-! a node dies -/
section
variable {R n c : Nat} {fr : Int32} {rn om jc jb jv js jm lk cb cv di hz : Nat → Int32} {co sa ow dn : Nat → Int32}
theorem sd_die59 {post : SX → Prop} (hn : n < 3) (K : ∀ lk' : Nat → Int32, (∀ b, b < 16 → lk' (n * 16 + b) = 0) → (∀ m, m ≠ n → sd_s 16 lk' m = sd_s 16 lk m) → post (fr, rn, om, jc, jb, jv, js, jm, lk', cb, cv, di, hz)) : ∃ k, wX_die_59 post (nI n) fr k 0 rn om jc jb jv js jm lk cb cv di hz := by
  have L : ∀ d i, ∀ lk' : Nat → Int32, i + d = 16 → (∀ j, j < i → lk' (n * 16 + j) = 0) → (∀ m, m ≠ n → sd_s 16 lk' m = sd_s 16 lk m) → wX_die_59 post (nI n) fr (d + 1) (nI i) rn om jc jb jv js jm lk' cb cv di hz := by
    intro d
    induction d with
    | zero =>
      intro i lk' hi h1 h2
      rw [wX_die_59]
      exact br_t (nI_le (a := 16) (by omega) (by omega)) (K lk' (fun b hb => h1 b (by omega)) h2)
    | succ d ih =>
      intro i lk' hi h1 h2
      rw [wX_die_59]
      simp (disch := omega) only [nI_clamp, sd_m16, nI_add, nI_1]
      refine br_f (nI_ge (b := 16) (by omega) (by omega)) ⟨vp_in_nI (by omega) (by decide), nm_e (nm_e (ih (i + 1) _ (by omega) (fun j hj => ?_) (fun m hm => ?_)))⟩
      · by_cases q : j = i
        · rw [q, pk_us]
        · rw [pk_un (by omega)]
          exact h1 j (by omega)
      · rw [sd_so (by omega) hm]
        exact h2 m hm
  exact ⟨17, L 16 0 lk (by omega) (fun j hj => by omega) (fun m _ => rfl)⟩
theorem sd_die {post : SX → Prop} {Q : (Nat → Int32) → Prop} (hn : n < 3) (hc : c ≤ 16) (ec : jc n = nI c)
    (hJ : (jm n = 0 ∧ Q om) ∨ (¬ jm n = 0 ∧ js n = sd_sm jb jv (n * 16) (7 + nI c) c ∧ ∃ co : Nat → Int32, (∀ i, i < c → ∃ b, b < 16 ∧ jb (n * 16 + i) = nI b ∧ jv (n * 16 + i) = co b) ∧
      ∀ om' : Nat → Int32, (∀ b, b < 16 → ((∃ i, i < c ∧ jb (n * 16 + i) = nI b) → om' b = co b) ∧ (¬ (∃ i, i < c ∧ jb (n * 16 + i) = nI b) → om' b = om b)) → Q om'))
    (K : ∀ om' lk' cb' di' : Nat → Int32, Q om' → (∀ i, i < 8 → cb' (n * 8 + i) = -1 ∧ di' (n * 8 + i) = 0) → (∀ m, m ≠ n → sd_s 8 cb' m = sd_s 8 cb m ∧ sd_s 8 di' m = sd_s 8 di m) → (∀ b, b < 16 → lk' (n * 16 + b) = 0) → (∀ m, m ≠ n → sd_s 16 lk' m = sd_s 16 lk m) → post (fr, upd rn n 0, om', upd jc n 0, jb, jv, js, upd jm n 0, lk', cb', cv, di', hz)) :
    wpX_die post (fr, rn, om, jc, jb, jv, js, jm, lk, cb, cv, di, hz) (nI n) := by
  have L : ∀ d i, ∀ cb' di' : Nat → Int32, i + d = 8 → (∀ j, j < i → cb' (n * 8 + j) = -1 ∧ di' (n * 8 + j) = 0) → (∀ m, m ≠ n → sd_s 8 cb' m = sd_s 8 cb m ∧ sd_s 8 di' m = sd_s 8 di m) → wX_die_12 post (nI n) (d + 1) (nI (n * 8 + i)) fr (upd rn n 0) om jc jb jv js jm lk cb' cv di' hz := by
    intro d
    induction d with
    | zero =>
      intro i cb' di' hi h1 h2
      have q : i = 8 := by omega
      subst q
      rw [wX_die_12]
      simp (disch := omega) only [nI_clamp, sd_m8, sd_a8, nI_1]
      refine br_t (nI_le (by omega) (by omega)) ?_
      rcases hJ with ⟨hm, hQ⟩ | ⟨hm, hs, co, hE, hQ⟩
      · refine sd_whole0 hn hm (br_t rfl (sd_empty hn ?_))
        exact sd_die59 hn (fun lk' k1 k2 => K om lk' cb' di' hQ h1 h2 k1 k2)
      · refine sd_whole1 hn hc ec hm hs (br_f sd_10 (sd_bh hn hc ec hE (fun om' ho => ?_)))
        exact sd_die59 hn (fun lk' k1 k2 => K om' lk' cb' di' (hQ om' ho) h1 h2 k1 k2)
    | succ d ih =>
      intro i cb' di' hi h1 h2
      rw [wX_die_12]
      simp (disch := omega) only [nI_clamp, sd_m8, sd_a8, nI_1]
      refine br_f (nI_ge (by omega) (by omega)) (sd_drop (by omega) ?_)
      dsimp only
      refine nm_r (e' := nI (n * 8 + i + 1)) ?_ ?_
      · first | with_reducible rfl | exact nI_1 _
      · refine ih (i + 1) _ _ (by omega) (fun j hj => ?_) (fun m hm => ?_)
        · by_cases q : j = i
          · rw [q, pk_us, pk_us]
            exact ⟨rfl, rfl⟩
          · rw [pk_un (by omega), pk_un (by omega)]
            exact h1 j (by omega)
        · rw [sd_so (by omega) hm, sd_so (by omega) hm]
          exact h2 m hm
  unfold wpX_die
  refine And.intro (vp_in_nI hn (by decide)) (nm_r (e' := upd rn n 0) (by rw [nI_clamp (by omega), sd_b0]) (nm_r (sd_m8 n) ?_))
  exact ⟨9, L 8 0 cb di (by omega) (fun j hj => by omega) (fun m _ => ⟨rfl, rfl⟩)⟩
theorem sd_dieI {post : SX → Prop} (I : sd_I R fr rn om jc jb jv jm lk cb cv di hz co sa ow dn) (hn : n < 3)
    (K : ∀ jc' jm' lk' cb' di' : Nat → Int32, sd_I R fr (upd rn n 0) om jc' jb jv jm' lk' cb' cv di' hz (sd_pa 16 sa co ow (nI n)) sa (sd_pa 16 (fun _ => -4) ow ow (nI n)) (upd dn n 1) → post (fr, upd rn n 0, om, jc', jb, jv, js, jm', lk', cb', cv, di', hz)) : wpX_die post (fr, rn, om, jc, jb, jv, js, jm, lk, cb, cv, di, hz) (nI n) := by
  obtain ⟨c, hc, ec, hE, hW⟩ := sd_jn I hn
  refine sd_die (Q := fun om' => om' = om) hn hc ec (Or.inl ⟨I.2.2.2.2.2.2 n hn, rfl⟩) (fun om' lk' cb' di' hQ hC hO hK hM => ?_)
  subst hQ
  refine K _ _ _ _ _ (sd_g9 I hn hC hO hK hM (fun m hm => ?_))
  by_cases q : m = n
  · rw [q, pk_us]
  · rw [pk_un q]
    exact I.2.2.2.2.2.2 m hm
end
end
section
/-! walks of the reference -/
section
variable {n b b' : Nat} {x p p0 p1 p2 v : Int32} {co sa ow dn : Nat → Int32} {sa1 ow1 : Nat → Int32}
theorem sd_ysk {post : Int32 → SY → Prop} (hp : ¬ p = 0) (h : post (nI (sd_cnt (fun b => ow b = x) 16)) (co, sd_pa 16 co sa ow x, sd_pa 16 (fun _ => -4) ow ow x, dn)) : wpY_settle post (co, sa, ow, dn) x p := by
  have L : ∀ d i, i + d = 16 → wY_settle_5 post x p (d + 1) (nI (sd_cnt (fun b => ow b = x) i)) (nI i) co (sd_pa i co sa ow x) (sd_pa i (fun _ => -4) ow ow x) dn := by
    intro d
    induction d with
    | zero =>
      intro i hi
      have q : i = 16 := by omega
      subst q
      rw [wY_settle_5]
      exact br_t (nI_le (a := 16) (b := 16) (by omega) (by omega)) h
    | succ d ih =>
      intro i hi
      have IH := ih (i + 1) (by omega)
      have eo : sd_pa i (fun _ => -4) ow ow x i = ow i := sd_pao (by omega)
      rw [wY_settle_5]
      simp (disch := omega) only [nI_clamp, nI_1, eo]
      refine br_f (nI_ge (b := 16) (by omega) (by omega)) ⟨vp_in_nI (by omega) (by decide), br_c (fun e => br_f hp ⟨vp_in_nI (by omega) (by decide), vp_in_nI (by omega) (by decide), nm_e ?_⟩) (fun e => nm_e ?_)⟩
      · have e1 : upd (sd_pa i (fun _ => -4) ow ow x) i (-4) = sd_pa (i + 1) (fun _ => -4) ow ow x := sd_pas (f := fun _ => -4) e
        have e2 : upd (sd_pa i co sa ow x) i (co i) = sd_pa (i + 1) co sa ow x := sd_pas e
        unfold wY_settle_58
        simp (disch := omega) only [nI_clamp, nI_1]
        refine ⟨vp_in_nI (by omega) (by decide), nm_r e1 (nm_e (nm_e ?_))⟩
        rw [e2, ← sd_cnt_t (p := fun b => ow b = x) e]
        exact IH
      · rw [← sd_pan e, ← sd_pan e, sd_cnt_f (p := fun b => ow b = x) e] at IH
        exact IH
  have h0 := L 16 0 (by omega)
  rw [sd_pa0, sd_pa0] at h0
  unfold wpY_settle
  exact Exists.intro 17 h0
theorem sd_ysd {post : Int32 → SY → Prop} (hp : p = 0) (h : post (nI (sd_cnt (fun b => ow b = x) 16)) (sd_pa 16 sa co ow x, sa, sd_pa 16 (fun _ => -4) ow ow x, dn)) : wpY_settle post (co, sa, ow, dn) x p := by
  have L : ∀ d i, i + d = 16 → wY_settle_5 post x p (d + 1) (nI (sd_cnt (fun b => ow b = x) i)) (nI i) (sd_pa i sa co ow x) sa (sd_pa i (fun _ => -4) ow ow x) dn := by
    intro d
    induction d with
    | zero =>
      intro i hi
      have q : i = 16 := by omega
      subst q
      rw [wY_settle_5]
      exact br_t (nI_le (a := 16) (b := 16) (by omega) (by omega)) h
    | succ d ih =>
      intro i hi
      have IH := ih (i + 1) (by omega)
      have eo : sd_pa i (fun _ => -4) ow ow x i = ow i := sd_pao (by omega)
      rw [wY_settle_5]
      simp (disch := omega) only [nI_clamp, nI_1, eo]
      refine br_f (nI_ge (b := 16) (by omega) (by omega)) ⟨vp_in_nI (by omega) (by decide), br_c (fun e => br_t hp ⟨vp_in_nI (by omega) (by decide), vp_in_nI (by omega) (by decide), nm_e ?_⟩) (fun e => nm_e ?_)⟩
      · have e1 : upd (sd_pa i (fun _ => -4) ow ow x) i (-4) = sd_pa (i + 1) (fun _ => -4) ow ow x := sd_pas (f := fun _ => -4) e
        have e2 : upd (sd_pa i sa co ow x) i (sa i) = sd_pa (i + 1) sa co ow x := sd_pas e
        unfold wY_settle_58
        simp (disch := omega) only [nI_clamp, nI_1]
        refine ⟨vp_in_nI (by omega) (by decide), nm_r e1 (nm_e (nm_e ?_))⟩
        rw [e2, ← sd_cnt_t (p := fun b => ow b = x) e]
        exact IH
      · rw [← sd_pan e, ← sd_pan e, sd_cnt_f (p := fun b => ow b = x) e] at IH
        exact IH
  have h0 := L 16 0 (by omega)
  rw [sd_pa0, sd_pa0] at h0
  unfold wpY_settle
  exact Exists.intro 17 h0
theorem sd_yt (hb : b < 16) (hO : sd_O co sa ow) : ∃ sa1 ow1, sd_TK n b co sa ow sa1 ow1 ∧ ∀ post : SY → Prop, post (co, sa1, ow1, dn) → wpY_takeFromOthers post (co, sa, ow, dn) (nI n) (nI b) := by
  have cl : (nI b).toNatClampNeg = b := nI_clamp (by omega)
  have vb : vp_in (nI b) 16 := vp_in_nI hb (by decide)
  by_cases h : ow b = -4 ∨ ow b = nI n
  · refine ⟨sa, ow, Or.inr ⟨h, rfl, rfl⟩, fun post hp => ?_⟩
    unfold wpY_takeFromOthers
    by_cases h4 : ow b < 0
    · exact And.intro vb (br_t (by rw [cl]; exact h4) hp)
    · have hn : ow b = nI n := h.resolve_left (fun w => h4 (by rw [w]; exact sd_n4))
      exact And.intro vb (br_f (by rw [cl]; exact h4) ⟨vb, br_t (by rw [cl]; exact hn) hp⟩)
  · obtain ⟨o, ho, w⟩ : ∃ o, o < 3 ∧ ow b = nI o := by
      rcases hO b hb with w | w
      · exact absurd (Or.inl w.1) h
      · exact w
    have hne : o ≠ n := fun q => h (Or.inr (by rw [w, q]))
    refine ⟨_, _, Or.inl ⟨o, ho, hne, w, rfl, rfl⟩, fun post hp => ?_⟩
    unfold wpY_takeFromOthers
    refine And.intro vb (br_f (by rw [cl, w]; exact nI_pos (by omega)) ⟨vb, br_f (by rw [cl]; exact fun q => h (Or.inr q)) ⟨vb, ?_⟩⟩)
    rw [cl, w]
    exact sd_ysk sd_10 hp
/-! refusals -/
theorem sd_yn0 {post : Int32 → Prop} (h : p < 0 ∨ 3 ≤ p) (k : post 0) : wpY_isNode post (co, sa, ow, dn) p := by
  unfold wpY_isNode
  by_cases h0 : p < 0
  · exact br_t h0 k
  · exact br_f h0 (br_t (h.resolve_left h0) k)
theorem sd_yn1 {post : Int32 → Prop} (hn : n < 3) (k : post 1) : wpY_isNode post (co, sa, ow, dn) (nI n) := by
  unfold wpY_isNode
  exact br_f (nI_pos (by omega)) (br_f (nI_ge (b := 3) (by omega) (by omega)) k)
theorem sd_yb0 {post : Int32 → Prop} (h : p < 0 ∨ 16 ≤ p) (k : post 0) : wpY_isBlock post (co, sa, ow, dn) p := by
  unfold wpY_isBlock
  by_cases h0 : p < 0
  · exact br_t h0 k
  · exact br_f h0 (br_t (h.resolve_left h0) k)
theorem sd_yb1 {post : Int32 → Prop} (hb : b < 16) (k : post 1) : wpY_isBlock post (co, sa, ow, dn) (nI b) := by
  unfold wpY_isBlock
  exact br_f (nI_pos (by omega)) (br_f (nI_ge (b := 16) (by omega) (by omega)) k)
theorem sd_yr1 {post : Int32 → Prop} (h : p0 < 0 ∨ 3 ≤ p0) (k : post (-1)) : wpY_refusal post (co, sa, ow, dn) p0 p1 p2 := by
  unfold wpY_refusal
  exact sd_yn0 h (br_t rfl k)
theorem sd_yr2 {post : Int32 → Prop} (hn : n < 3) (h : p1 < 0 ∨ 16 ≤ p1) (k : post (-2)) : wpY_refusal post (co, sa, ow, dn) (nI n) p1 p2 := by
  unfold wpY_refusal
  exact sd_yn1 hn (br_f sd_10 (sd_yb0 h (br_t rfl k)))
theorem sd_yr3 {post : Int32 → Prop} (hn : n < 3) (hb : b < 16) (h : p2 < 0 ∨ 16 ≤ p2) (k : post (-2)) : wpY_refusal post (co, sa, ow, dn) (nI n) (nI b) p2 := by
  unfold wpY_refusal
  exact sd_yn1 hn (br_f sd_10 (sd_yb1 hb (br_f sd_10 (sd_yb0 h (br_t rfl k)))))
theorem sd_yr4 {post : Int32 → Prop} (hn : n < 3) (hb : b < 16) (hb' : b' < 16) (hd : ¬ dn n = 0) (k : post (-3)) : wpY_refusal post (co, sa, ow, dn) (nI n) (nI b) (nI b') := by
  unfold wpY_refusal
  exact sd_yn1 hn (br_f sd_10 (sd_yb1 hb (br_f sd_10 (sd_yb1 hb' (br_f sd_10 ⟨vp_in_nI hn (by decide), br_f (by rw [nI_clamp (by omega)]; exact hd) k⟩)))))
theorem sd_yr0 {post : Int32 → Prop} (hn : n < 3) (hb : b < 16) (hb' : b' < 16) (hd : dn n = 0) (k : post 0) : wpY_refusal post (co, sa, ow, dn) (nI n) (nI b) (nI b') := by
  unfold wpY_refusal
  exact sd_yn1 hn (br_f sd_10 (sd_yb1 hb (br_f sd_10 (sd_yb1 hb' (br_f sd_10 ⟨vp_in_nI hn (by decide), br_t (by rw [nI_clamp (by omega)]; exact hd) k⟩)))))
theorem sd_yu {post : Int32 → Prop} (hn : n < 3) (h : post (nI (sd_cnt (fun b => ow b = nI n) 16))) : wpY_unsafe post (co, sa, ow, dn) (nI n) := by
  have L : ∀ d i, i + d = 16 → wY_unsafe_14 post (nI n) co sa ow dn (d + 1) (nI (sd_cnt (fun b => ow b = nI n) i)) (nI i) := by
    intro d
    induction d with
    | zero =>
      intro i hi
      have q : i = 16 := by omega
      subst q
      rw [wY_unsafe_14]
      exact br_t (nI_le (a := 16) (b := 16) (by omega) (by omega)) h
    | succ d ih =>
      intro i hi
      have IH := ih (i + 1) (by omega)
      rw [wY_unsafe_14]
      simp (disch := omega) only [nI_clamp, nI_1]
      refine br_f (nI_ge (b := 16) (by omega) (by omega)) ⟨vp_in_nI (by omega) (by decide), br_c (fun e => nm_e (nm_e ?_)) (fun e => nm_e ?_)⟩
      · rw [sd_cnt_t (p := fun b => ow b = nI n) e] at IH
        exact IH
      · rw [sd_cnt_f (p := fun b => ow b = nI n) e] at IH
        exact IH
  unfold wpY_unsafe
  exact sd_yn1 hn (br_f sd_10 ⟨17, L 16 0 (by omega)⟩)
theorem sd_yrd {post : Int32 → SY → Prop} (hn : n < 3) (hb : b < 16) (hd : dn n = 0) (hY : ∀ post : SY → Prop, post (co, sa1, ow1, dn) → wpY_takeFromOthers post (co, sa, ow, dn) (nI n) (nI b)) (k : post (co b) (co, sa1, ow1, dn)) : wpY_read post (co, sa, ow, dn) (nI n) (nI b) := by
  unfold wpY_read
  refine sd_yr0 hn hb hb hd (br_t (by decide) (hY _ ?_))
  exact And.intro (vp_in_nI hb (by decide)) (by rw [nI_clamp (by omega)]; exact k)
theorem sd_ywr {post : Int32 → SY → Prop} (hn : n < 3) (hb : b < 16) (hd : dn n = 0) (hY : ∀ post : SY → Prop, post (co, sa1, ow1, dn) → wpY_takeFromOthers post (co, sa, ow, dn) (nI n) (nI b))
    (k : post (nI (sd_cnt (fun j => upd ow1 b (nI n) j = nI n) 16)) (upd co b v, sa1, upd ow1 b (nI n), dn)) : wpY_write post (co, sa, ow, dn) (nI n) (nI b) v := by
  unfold wpY_write
  refine sd_yr0 hn hb hb hd (br_t (by decide) (hY _ ?_))
  exact And.intro (vp_in_nI hb (by decide)) (nm_r (sd_cl (by omega)) ⟨vp_in_nI hb (by decide), nm_r (sd_cl (by omega)) (sd_yu hn k)⟩)
theorem sd_ycs0 {post : Int32 → SY → Prop} (hn : n < 3) (hd : dn n = 0) (hp : p = 0) (k : post (nI (sd_cnt (fun b => ow b = nI n) 16)) (sd_pa 16 sa co ow (nI n), sa, sd_pa 16 (fun _ => -4) ow ow (nI n), upd dn n 1)) : wpY_crashInSync post (co, sa, ow, dn) (nI n) p := by
  unfold wpY_crashInSync
  exact sd_yr0 (b := 0) (b' := 0) hn (by omega) (by omega) hd (br_t (by decide) ⟨vp_in_nI hn (by decide), nm_r (e' := upd dn n 1) (by rw [nI_clamp (by omega), sd_b1]) (sd_ysd hp k)⟩)
theorem sd_ycs1 {post : Int32 → SY → Prop} (hn : n < 3) (hd : dn n = 0) (hp : ¬ p = 0) (k : post (nI (sd_cnt (fun b => ow b = nI n) 16)) (co, sd_pa 16 co sa ow (nI n), sd_pa 16 (fun _ => -4) ow ow (nI n), upd dn n 1)) : wpY_crashInSync post (co, sa, ow, dn) (nI n) p := by
  unfold wpY_crashInSync
  exact sd_yr0 (b := 0) (b' := 0) hn (by omega) (by omega) hd (br_t (by decide) ⟨vp_in_nI hn (by decide), nm_r (e' := upd dn n 1) (by rw [nI_clamp (by omega), sd_b1]) (sd_ysk hp k)⟩)
end
end
section
/-! the relation, the constructors, questions -/
section
def i_Rel (k : Nat) (u : SX) (v : SY) : Prop := match u, v with
  | (fr, rn, om, jc, jb, jv, js, jm, lk, cb, cv, di, hz), (co, sa, ow, dn) => ∃ R : Nat, sd_I R fr rn om jc jb jv jm lk cb cv di hz co sa ow dn
theorem i_up {k : Nat} {u : SX} {v : SY} (h : i_Rel k u v) : i_Rel (k + 4) u v := h
theorem sd_el {k : Nat} {u : SX} {v : SY} {P : SX → SY → Prop} (I : i_Rel k u v) (h : ∀ (R : Nat) (fr : Int32) (rn om jc jb jv js jm lk cb cv di hz co sa ow dn : Nat → Int32), sd_I R fr rn om jc jb jv jm lk cb cv di hz co sa ow dn → P (fr, rn, om, jc, jb, jv, js, jm, lk, cb, cv, di, hz) (co, sa, ow, dn)) : P u v := by
  obtain ⟨fr, rn, om, jc, jb, jv, js, jm, lk, cb, cv, di, hz⟩ := u
  obtain ⟨co, sa, ow, dn⟩ := v
  obtain ⟨R, I⟩ := I
  exact h R fr rn om jc jb jv js jm lk cb cv di hz co sa ow dn I
variable {R n b k : Nat} {p : Int32} {fr : Int32} {rn om jc jb jv js jm lk cb cv di hz : Nat → Int32} {co sa ow dn : Nat → Int32}
theorem sd_in (I : sd_I R fr rn om jc jb jv jm lk cb cv di hz co sa ow dn) : i_Rel k (fr, rn, om, jc, jb, jv, js, jm, lk, cb, cv, di, hz) (co, sa, ow, dn) := Exists.intro R I
/-! arguments -/
theorem sd_nod (v : Int32) : (v < 0 ∨ 3 ≤ v) ∨ ∃ n, n < 3 ∧ v = nI n := by
  by_cases h : v < 0
  · exact Or.inl (Or.inl h)
  · obtain ⟨j, hj, rfl⟩ := nI_of h
    by_cases q : j < 3
    · exact Or.inr ⟨j, q, rfl⟩
    · exact Or.inl (Or.inr (nI_le (a := 3) (by omega) hj))
theorem sd_blk (v : Int32) : (v < 0 ∨ 16 ≤ v) ∨ ∃ n, n < 16 ∧ v = nI n := by
  by_cases h : v < 0
  · exact Or.inl (Or.inl h)
  · obtain ⟨j, hj, rfl⟩ := nI_of h
    by_cases q : j < 16
    · exact Or.inr ⟨j, q, rfl⟩
    · exact Or.inl (Or.inr (nI_le (a := 16) (by omega) hj))
theorem sd_xn0 {post : Int32 → Prop} (h : p < 0 ∨ 3 ≤ p) (k : post 1) : wpX_badNode post p := by
  unfold wpX_badNode
  by_cases h0 : p < 0
  · exact br_t h0 k
  · exact br_f h0 (br_f (Int32.not_lt.mpr (h.resolve_left h0)) k)
theorem sd_xn1 {post : Int32 → Prop} (hn : n < 3) (k : post 0) : wpX_badNode post (nI n) := by
  unfold wpX_badNode
  exact br_f (nI_pos (by omega)) (br_t (nI_lt (b := 3) hn (by omega)) k)
theorem sd_xb0 {post : Int32 → Prop} (h : p < 0 ∨ 16 ≤ p) (k : post 1) : wpX_badBlock post p := by
  unfold wpX_badBlock
  by_cases h0 : p < 0
  · exact br_t h0 k
  · exact br_f h0 (br_f (Int32.not_lt.mpr (h.resolve_left h0)) k)
theorem sd_xb1 {post : Int32 → Prop} (hb : b < 16) (k : post 0) : wpX_badBlock post (nI b) := by
  unfold wpX_badBlock
  exact br_f (nI_pos (by omega)) (br_t (nI_lt (b := 16) hb (by omega)) k)
theorem sd_up (I : sd_I R fr rn om jc jb jv jm lk cb cv di hz co sa ow dn) (hn : n < 3) (hr : ¬ rn n = 0) : dn n = 0 := by
  by_cases w : dn n = 0
  · exact w
  · exact absurd ((I.2.2.2.2.2.1 n hn).mpr w) hr
/-! the constructors -/
theorem sd_i141 {post : SX → Prop} (K : ∀ rn' : Nat → Int32, (∀ n, n < 3 → rn' n = 1) → post (fr, rn', om, jc, jb, jv, js, jm, lk, cb, cv, di, hz)) : ∃ k, wX_init_141 post fr k 0 rn om jc jb jv js jm lk cb cv di hz := by
  have L : ∀ d i, ∀ rn' : Nat → Int32, i + d = 3 → (∀ j, j < i → rn' j = 1) → wX_init_141 post fr (d + 1) (nI i) rn' om jc jb jv js jm lk cb cv di hz := by
    intro d
    induction d with
    | zero =>
      intro i rn' hi h
      rw [wX_init_141]
      exact br_t (nI_le (a := 3) (by omega) (by omega)) (K rn' (fun n hn => h n (by omega)))
    | succ d ih =>
      intro i rn' hi h
      rw [wX_init_141]
      simp (disch := omega) only [nI_clamp, nI_1, sd_b1]
      refine br_f (nI_ge (b := 3) (by omega) (by omega)) ⟨vp_in_nI (by omega) (by decide), nm_e (nm_e (ih (i + 1) _ (by omega) (fun j hj => ?_)))⟩
      by_cases q : j = i
      · rw [q, pk_us]
      · rw [pk_un q]
        exact h j (by omega)
  exact ⟨4, L 3 0 rn (by omega) (fun j hj => by omega)⟩
theorem sd_i120 {post : SX → Prop} (K : ∀ rn' cb' : Nat → Int32, (∀ n, n < 3 → rn' n = 1) → (∀ i, i < 24 → cb' i = -1) → post (fr, rn', om, jc, jb, jv, js, jm, lk, cb', cv, di, hz)) : ∃ k, wX_init_120 post fr k 0 rn om jc jb jv js jm lk cb cv di hz := by
  have L : ∀ d i, ∀ cb' : Nat → Int32, i + d = 24 → (∀ j, j < i → cb' j = -1) → wX_init_120 post fr (d + 1) (nI i) rn om jc jb jv js jm lk cb' cv di hz := by
    intro d
    induction d with
    | zero =>
      intro i cb' hi h
      rw [wX_init_120]
      exact br_t (nI_le (a := 24) (by omega) (by omega)) (sd_i141 (fun rn' hr => K rn' cb' hr (fun n hn => h n (by omega))))
    | succ d ih =>
      intro i cb' hi h
      rw [wX_init_120]
      simp (disch := omega) only [nI_clamp, nI_1]
      refine br_f (nI_ge (b := 24) (by omega) (by omega)) ⟨vp_in_nI (by omega) (by decide), nm_e (nm_e (ih (i + 1) _ (by omega) (fun j hj => ?_)))⟩
      by_cases q : j = i
      · rw [q, pk_us]
      · rw [pk_un q]
        exact h j (by omega)
  exact ⟨25, L 24 0 cb (by omega) (fun j hj => by omega)⟩
theorem sd_i37 {post : SY → Prop} (K : ∀ ow' : Nat → Int32, (∀ b, b < 16 → ow' b = -4) → post (co, sa, ow', dn)) : ∃ k, wY_init_37 post k 0 co sa ow dn := by
  have L : ∀ d i, ∀ ow' : Nat → Int32, i + d = 16 → (∀ j, j < i → ow' j = -4) → wY_init_37 post (d + 1) (nI i) co sa ow' dn := by
    intro d
    induction d with
    | zero =>
      intro i ow' hi h
      rw [wY_init_37]
      exact br_t (nI_le (a := 16) (by omega) (by omega)) (K ow' (fun n hn => h n (by omega)))
    | succ d ih =>
      intro i ow' hi h
      rw [wY_init_37]
      simp (disch := omega) only [nI_clamp, nI_1]
      refine br_f (nI_ge (b := 16) (by omega) (by omega)) ⟨vp_in_nI (by omega) (by decide), nm_e (nm_e (ih (i + 1) _ (by omega) (fun j hj => ?_)))⟩
      by_cases q : j = i
      · rw [q, pk_us]
      · rw [pk_un q]
        exact h j (by omega)
  exact ⟨17, L 16 0 ow (by omega) (fun j hj => by omega)⟩
theorem sd_z0 (k n : Nat) : ∀ i, sd_s k (fun _ => 0) n i = 0 := by
  intro i
  unfold sd_s
  split
  · rfl
  · rfl
theorem sd_I0 (h2 : 2 ≤ R) (h8 : R ≤ 8) (hr : ∀ n, n < 3 → rn n = 1) (hc : ∀ i, i < 24 → cb i = -1) (ho : ∀ b, b < 16 → ow b = -4) :
    sd_I R (nI R) rn (fun _ => 0) (fun _ => 0) (fun _ => 0) (fun _ => 0) (fun _ => 0) (fun _ => 0) cb (fun _ => 0) (fun _ => 0) (fun _ => 0) (fun _ => 0) (fun _ => 0) ow (fun _ => 0) := by
  refine ⟨⟨rfl, h2, h8⟩, fun n hn => ⟨⟨0, by omega, nI_0.symm⟩, 0, nI_0.symm, sd_p9 (fun i hi => ⟨?_, sd_z0 8 n i⟩) (fun b hb => ?_)⟩, ⟨fun n b hn hb => Or.inl rfl, fun n m b hn hm hb hne e => rfl⟩, fun b hb => Or.inl ⟨ho b hb, rfl⟩, fun b hb => rfl, fun n hn => ?_, fun n hn => rfl⟩
  · rw [sd_sv (by omega)]
    exact hc _ (by omega)
  · rw [ho b hb]
    exact fun w => sd_ne4 (by omega) w.symm
  · rw [hr n hn]
    exact ⟨fun w => absurd w sd_10, fun w => absurd rfl w⟩
theorem sd_vc1 {k0 : Int32} (h2 : 2 ≤ R) (h8 : R ≤ 8) : ∃ k, wX_init_120 (fun u => wpY_init (fun v => i_Rel 1 u v) k0) (nI R) k 0 (fun _ => 0) (fun _ => 0) (fun _ => 0) (fun _ => 0) (fun _ => 0) (fun _ => 0) (fun _ => 0) (fun _ => 0) (fun _ => 0) (fun _ => 0) (fun _ => 0) (fun _ => 0) := by
  refine sd_i120 (fun rn' cb' hr hc => ?_)
  unfold wpY_init
  exact sd_i37 (fun ow' ho => sd_in (sd_I0 h2 h8 hr hc ho))
theorem i_vc0 (k0 : Int32) : wpX_init (fun u => wpY_init (fun v => i_Rel 1 u v) k0) k0 := by
  unfold wpX_init
  by_cases h : (2 : Int32) ≤ k0
  · refine br_t h ?_
    have hp : ¬ k0 < 0 := by
      rw [Int32.not_lt]
      exact Int32.le_trans (by decide) h
    obtain ⟨j, hj, rfl⟩ := nI_of hp
    have h2 : 2 ≤ j := (nI_leI (a := 2) (by omega) hj).mp h
    unfold wX_init_104
    by_cases h8 : nI j ≤ (8 : Int32)
    · exact br_t h8 (sd_vc1 h2 ((nI_leI (b := 8) hj (by omega)).mp h8))
    · exact br_f h8 (sd_vc1 (R := 8) (by omega) (by omega))
  · refine br_f h ?_
    unfold wX_init_104
    exact br_t (by decide) (sd_vc1 (R := 2) (by omega) (by omega))
end
end
section
/-! the owed rows: questions, restart, sync, crashes -/
section
variable {R n b k : Nat} {p : Int32} {fr : Int32} {rn om jc jb jv js jm lk cb cv di hz : Nat → Int32} {co sa ow dn : Nat → Int32}
theorem sd_oo {post : Int32 → Prop} (I : sd_I R fr rn om jc jb jv jm lk cb cv di hz co sa ow dn) (hb : b < 16) (h : post (ow b)) : wpX_ownerOf post (fr, rn, om, jc, jb, jv, js, jm, lk, cb, cv, di, hz) (nI b) := by
  have L : ∀ d k, k + d = 3 → (∀ j, j < k → ¬ ow b = nI j) → wX_ownerOf_2 post (nI b) fr rn om jc jb jv js jm lk cb cv di hz (d + 1) (nI k) := by
    intro d
    induction d with
    | zero =>
      intro k hk hj
      rw [wX_ownerOf_2]
      refine br_t (nI_le (a := 3) (by omega) (by omega)) ?_
      rcases I.2.2.2.1 b hb with w | ⟨n, hn, w⟩
      · rw [w.1] at h
        exact h
      · exact absurd w (hj n (by omega))
    | succ d ih =>
      intro k hk hj
      rw [wX_ownerOf_2]
      refine br_f (nI_ge (b := 3) (by omega) (by omega)) (sd_iu I (by omega) hb (fun w => br_f sd_10 ?_) (fun w => br_t rfl (nm_r (nI_1 k) ?_)))
      · rw [w] at h
        exact h
      · exact ih (k + 1) (by omega) (lt_s hj w)
  unfold wpX_ownerOf
  exact Exists.intro 4 (L 3 0 (by omega) (fun j hj => by omega))
theorem i_vc_content {k : Nat} {u : SX} {v : SY} (I : i_Rel k u v) (hk : k + 4 ≤ 2049) (v1 : Int32) : wpX_content (fun r => wpY_content (fun r' => r' = r ∧ i_Rel (k + 4) u v) v v1) u v1 := by
  refine sd_el (P := fun u v => wpX_content (fun r => wpY_content (fun r' => r' = r ∧ i_Rel (k + 4) u v) v v1) u v1) I ?_
  intro R fr rn om jc jb jv js jm lk cb cv di hz co sa ow dn I
  have hR := I.1.2.2
  unfold wpX_content
  rcases sd_blk v1 with h1 | ⟨b, hb, rfl⟩
  · refine sd_xb0 h1 (br_f sd_10 ?_)
    unfold wpY_content
    exact sd_yb0 h1 (br_t rfl ⟨rfl, sd_in I⟩)
  · refine sd_xb1 hb (br_t rfl ?_)
    have Y : ∀ r, r = co b → wpY_content (fun r' => r' = r ∧ i_Rel (k + 4) (fr, rn, om, jc, jb, jv, js, jm, lk, cb, cv, di, hz) (co, sa, ow, dn)) (co, sa, ow, dn) (nI b) := by
      intro r hr
      unfold wpY_content
      exact sd_yb1 hb (br_f sd_10 ⟨vp_in_nI hb (by decide), by rw [nI_clamp (by omega)]; exact hr.symm, sd_in I⟩)
    refine sd_oo I hb ?_
    rcases I.2.2.2.1 b hb with w | ⟨n, hn, w⟩
    · rw [w.1]
      refine br_f sd_n4' ⟨vp_in_nI hb (by decide), Y _ ?_⟩
      rw [nI_clamp (by omega), I.2.2.2.2.1 b hb, w.2]
    · rw [w]
      refine br_t (nI_pos' (by omega)) (sd_cch hn I.1.1 hR (fun hno => ?_) (fun i hi e => ?_))
      · obtain ⟨c, hc, ec, hE, hW⟩ := sd_jn I hn
        refine br_t sd_n1 (sd_jrd hn hc ec (fun h => ?_) (fun j hj ej => ?_))
        · exfalso
          rcases (hW b hb).mp w with ⟨j, hj, ej⟩ | ⟨i, hi, e, _⟩
          · exact h j hj ej
          · exact hno i hi e
        · refine br_t (nI_pos' (by omega)) ⟨vp_in_nI (by omega) (by decide), Y _ ?_⟩
          rw [nI_clamp (by omega)]
          obtain ⟨b', hb', e', w'⟩ := hE j hj
          have q : b' = b := sd_inj (e'.symm.trans ej) (by omega) (by omega)
          subst q
          rcases w' with w' | ⟨i, hi, e, _⟩
          · exact w'
          · exact absurd e (hno i hi)
      · refine br_f (nI_pos (by omega)) ⟨vp_in_nI (by omega) (by decide), Y _ ?_⟩
        rw [nI_clamp (by omega)]
        exact sd_cellv I hn hi hb e
theorem i_vc_safe {k : Nat} {u : SX} {v : SY} (I : i_Rel k u v) (hk : k + 4 ≤ 2049) (v1 : Int32) : wpX_safe (fun r => wpY_safe (fun r' => r' = r ∧ i_Rel (k + 4) u v) v v1) u v1 := by
  refine sd_el (P := fun u v => wpX_safe (fun r => wpY_safe (fun r' => r' = r ∧ i_Rel (k + 4) u v) v v1) u v1) I ?_
  intro R fr rn om jc jb jv js jm lk cb cv di hz co sa ow dn I
  unfold wpX_safe
  rcases sd_blk v1 with h1 | ⟨b, hb, rfl⟩
  · refine sd_xb0 h1 (br_f sd_10 ?_)
    unfold wpY_safe
    exact sd_yb0 h1 (br_t rfl ⟨rfl, sd_in I⟩)
  · refine sd_xb1 hb (br_t rfl ⟨vp_in_nI hb (by decide), ?_⟩)
    unfold wpY_safe
    exact sd_yb1 hb (br_f sd_10 ⟨vp_in_nI hb (by decide), by rw [nI_clamp (by omega)]; exact (I.2.2.2.2.1 b hb).symm, sd_in I⟩)
theorem i_vc_owner {k : Nat} {u : SX} {v : SY} (I : i_Rel k u v) (hk : k + 4 ≤ 2049) (v1 : Int32) : wpX_owner (fun r => wpY_owner (fun r' => r' = r ∧ i_Rel (k + 4) u v) v v1) u v1 := by
  refine sd_el (P := fun u v => wpX_owner (fun r => wpY_owner (fun r' => r' = r ∧ i_Rel (k + 4) u v) v v1) u v1) I ?_
  intro R fr rn om jc jb jv js jm lk cb cv di hz co sa ow dn I
  unfold wpX_owner
  rcases sd_blk v1 with h1 | ⟨b, hb, rfl⟩
  · refine sd_xb0 h1 (br_f sd_10 ?_)
    unfold wpY_owner
    exact sd_yb0 h1 (br_t rfl ⟨rfl, sd_in I⟩)
  · refine sd_xb1 hb (br_t rfl (sd_oo I hb ?_))
    unfold wpY_owner
    exact sd_yb1 hb (br_f sd_10 ⟨vp_in_nI hb (by decide), by rw [nI_clamp (by omega)], sd_in I⟩)
theorem i_vc_unsafe {k : Nat} {u : SX} {v : SY} (I : i_Rel k u v) (hk : k + 4 ≤ 2049) (v1 : Int32) : wpX_unsafe (fun r => wpY_unsafe (fun r' => r' = r ∧ i_Rel (k + 4) u v) v v1) u v1 := by
  refine sd_el (P := fun u v => wpX_unsafe (fun r => wpY_unsafe (fun r' => r' = r ∧ i_Rel (k + 4) u v) v v1) u v1) I ?_
  intro R fr rn om jc jb jv js jm lk cb cv di hz co sa ow dn I
  unfold wpX_unsafe
  rcases sd_nod v1 with h1 | ⟨n, hn, rfl⟩
  · refine sd_xn0 h1 (br_f sd_10 ?_)
    unfold wpY_unsafe
    exact sd_yn0 h1 (br_t rfl ⟨rfl, sd_in I⟩)
  · exact sd_xn1 hn (br_t rfl (sd_uc I hn (sd_yu hn ⟨rfl, sd_in I⟩)))
theorem i_vc_up {k : Nat} {u : SX} {v : SY} (I : i_Rel k u v) (hk : k + 4 ≤ 2049) (v1 : Int32) : wpX_up (fun r => wpY_up (fun r' => r' = r ∧ i_Rel (k + 4) u v) v v1) u v1 := by
  refine sd_el (P := fun u v => wpX_up (fun r => wpY_up (fun r' => r' = r ∧ i_Rel (k + 4) u v) v v1) u v1) I ?_
  intro R fr rn om jc jb jv js jm lk cb cv di hz co sa ow dn I
  unfold wpX_up
  rcases sd_nod v1 with h1 | ⟨n, hn, rfl⟩
  · refine sd_xn0 h1 (br_f sd_10 ?_)
    unfold wpY_up
    exact sd_yn0 h1 (br_t rfl ⟨rfl, sd_in I⟩)
  · refine sd_xn1 hn (br_t rfl ⟨vp_in_nI hn (by decide), br_c (fun hr => ?_) (fun hr => ?_)⟩)
    · rw [nI_clamp (by omega)] at hr
      unfold wpY_up
      exact sd_yn1 hn (br_f sd_10 ⟨vp_in_nI hn (by decide), br_f (by rw [nI_clamp (by omega)]; exact (I.2.2.2.2.2.1 n hn).mp hr) ⟨rfl, sd_in I⟩⟩)
    · rw [nI_clamp (by omega)] at hr
      unfold wpY_up
      exact sd_yn1 hn (br_f sd_10 ⟨vp_in_nI hn (by decide), br_t (by rw [nI_clamp (by omega)]; exact sd_up I hn hr) ⟨rfl, sd_in I⟩⟩)
theorem i_vc_restart {k : Nat} {u : SX} {v : SY} (I : i_Rel k u v) (hk : k + 4 ≤ 2049) (v1 : Int32) : wpX_restart (fun r u' => wpY_restart (fun r' v' => r' = r ∧ i_Rel (k + 4) u' v') v v1) u v1 := by
  refine sd_el (P := fun u v => wpX_restart (fun r u' => wpY_restart (fun r' v' => r' = r ∧ i_Rel (k + 4) u' v') v v1) u v1) I ?_
  intro R fr rn om jc jb jv js jm lk cb cv di hz co sa ow dn I
  unfold wpX_restart
  rcases sd_nod v1 with h1 | ⟨n, hn, rfl⟩
  · refine sd_xn0 h1 (br_f sd_10 ?_)
    unfold wpY_restart
    exact sd_yn0 h1 (br_t rfl ⟨rfl, sd_in I⟩)
  · have I' : sd_I R fr (upd rn n 1) om jc jb jv jm lk cb cv di hz co sa ow (upd dn n 0) := by
      refine sd_gr I (fun m hm => ?_)
      by_cases q : m = n
      · subst q
        rw [pk_us, pk_us]
        exact ⟨fun w => absurd w sd_10, fun w => absurd rfl w⟩
      · rw [pk_un q, pk_un q]
        exact I.2.2.2.2.2.1 m hm
    have cl : (nI n).toNatClampNeg = n := nI_clamp (by omega)
    have vn : vp_in (nI n) 3 := vp_in_nI hn (by decide)
    have ex : upd rn (nI n).toNatClampNeg (vp_nar .boolean 1) = upd rn n 1 := by rw [cl, sd_b1]
    have ey : upd dn (nI n).toNatClampNeg (vp_nar .boolean 0) = upd dn n 0 := by rw [cl, sd_b0]
    refine sd_xn1 hn (br_t rfl ⟨vn, br_c (fun hr => ?_) (fun hr => ?_)⟩)
    · rw [cl] at hr
      unfold wX_restart_23
      refine ⟨vn, nm_r ex ?_⟩
      unfold wpY_restart
      refine sd_yn1 hn (br_f sd_10 ⟨vn, br_f (by rw [cl]; exact (I.2.2.2.2.2.1 n hn).mp hr) ?_⟩)
      unfold wY_restart_24
      exact ⟨vn, nm_r ey ⟨rfl, sd_in I'⟩⟩
    · rw [cl] at hr
      unfold wX_restart_23
      refine ⟨vn, nm_r ex ?_⟩
      unfold wpY_restart
      refine sd_yn1 hn (br_f sd_10 ⟨vn, br_t (by rw [cl]; exact sd_up I hn hr) ?_⟩)
      unfold wY_restart_24
      exact ⟨vn, nm_r ey ⟨rfl, sd_in I'⟩⟩
theorem i_vc_sync {k : Nat} {u : SX} {v : SY} (I : i_Rel k u v) (hk : k + 4 ≤ 2049) (v1 : Int32) : wpX_sync (fun r u' => wpY_sync (fun r' v' => r' = r ∧ i_Rel (k + 4) u' v') v v1) u v1 := by
  refine sd_el (P := fun u v => wpX_sync (fun r u' => wpY_sync (fun r' v' => r' = r ∧ i_Rel (k + 4) u' v') v v1) u v1) I ?_
  intro R fr rn om jc jb jv js jm lk cb cv di hz co sa ow dn I
  unfold wpX_sync
  rcases sd_nod v1 with h1 | ⟨n, hn, rfl⟩
  · refine sd_xn0 h1 (br_f sd_10 ?_)
    unfold wpY_sync
    exact sd_yr1 h1 (br_f sd_n1' ⟨rfl, sd_in I⟩)
  · refine sd_xn1 hn (br_t rfl ⟨vp_in_nI hn (by decide), br_c (fun hr => ?_) (fun hr => ?_)⟩)
    · rw [nI_clamp (by omega)] at hr
      unfold wpY_sync
      exact sd_yr4 (b := 0) (b' := 0) hn (by omega) (by omega) ((I.2.2.2.2.2.1 n hn).mp hr) (br_f (by decide) ⟨rfl, sd_in I⟩)
    · rw [nI_clamp (by omega)] at hr
      refine sd_ms I hn (fun om' jc' jb' jv' js' jm' di' I' => ?_)
      dsimp only
      unfold wpY_sync
      exact sd_yr0 (b := 0) (b' := 0) hn (by omega) (by omega) (sd_up I hn hr) (br_t (by decide) (sd_ysk sd_10 ⟨rfl, sd_in I'⟩))
theorem i_vc_crash {k : Nat} {u : SX} {v : SY} (I : i_Rel k u v) (hk : k + 4 ≤ 2049) (v1 : Int32) : wpX_crash (fun r u' => wpY_crash (fun r' v' => r' = r ∧ i_Rel (k + 4) u' v') v v1) u v1 := by
  refine sd_el (P := fun u v => wpX_crash (fun r u' => wpY_crash (fun r' v' => r' = r ∧ i_Rel (k + 4) u' v') v v1) u v1) I ?_
  intro R fr rn om jc jb jv js jm lk cb cv di hz co sa ow dn I
  unfold wpX_crash
  rcases sd_nod v1 with h1 | ⟨n, hn, rfl⟩
  · refine sd_xn0 h1 (br_f sd_10 ?_)
    unfold wpY_crash wpY_crashInSync
    exact sd_yr1 h1 (br_f sd_n1' ⟨rfl, sd_in I⟩)
  · refine sd_xn1 hn (br_t rfl ⟨vp_in_nI hn (by decide), br_c (fun hr => ?_) (fun hr => ?_)⟩)
    · rw [nI_clamp (by omega)] at hr
      unfold wpY_crash wpY_crashInSync
      exact sd_yr4 (b := 0) (b' := 0) hn (by omega) (by omega) ((I.2.2.2.2.2.1 n hn).mp hr) (br_f (by decide) ⟨rfl, sd_in I⟩)
    · rw [nI_clamp (by omega)] at hr
      refine sd_uc I hn (sd_dieI I hn (fun jc' jm' lk' cb' di' I' => ?_))
      dsimp only
      unfold wpY_crash
      exact sd_ycs0 hn (sd_up I hn hr) rfl ⟨rfl, sd_in I'⟩
theorem i_vc_crashInSync {k : Nat} {u : SX} {v : SY} (I : i_Rel k u v) (hk : k + 4 ≤ 2049) (v1 : Int32) (v2 : Int32) : wpX_crashInSync (fun r u' => wpY_crashInSync (fun r' v' => r' = r ∧ i_Rel (k + 4) u' v') v v1 (lw_bz v2)) u v1 (lw_bz v2) := by
  generalize lw_bz v2 = p
  refine sd_el (P := fun u v => wpX_crashInSync (fun r u' => wpY_crashInSync (fun r' v' => r' = r ∧ i_Rel (k + 4) u' v') v v1 p) u v1 p) I ?_
  intro R fr rn om jc jb jv js jm lk cb cv di hz co sa ow dn I
  unfold wpX_crashInSync
  rcases sd_nod v1 with h1 | ⟨n, hn, rfl⟩
  · refine sd_xn0 h1 (br_f sd_10 ?_)
    unfold wpY_crashInSync
    exact sd_yr1 h1 (br_f sd_n1' ⟨rfl, sd_in I⟩)
  · refine sd_xn1 hn (br_t rfl ⟨vp_in_nI hn (by decide), br_c (fun hr => ?_) (fun hr => ?_)⟩)
    · rw [nI_clamp (by omega)] at hr
      unfold wpY_crashInSync
      exact sd_yr4 (b := 0) (b' := 0) hn (by omega) (by omega) ((I.2.2.2.2.2.1 n hn).mp hr) (br_f (by decide) ⟨rfl, sd_in I⟩)
    · rw [nI_clamp (by omega)] at hr
      have hd0 := sd_up I hn hr
      refine sd_uc I hn (sd_fill I hn (fun jc' jb' jv' di' I1 hd => ?_))
      dsimp only
      refine br_c (fun hp => ?_) (fun hp => ?_)
      · unfold wX_crashInSync_41
        refine sd_dieI I1 hn (fun jc2 jm2 lk2 cb2 di2 I2 => ?_)
        exact sd_ycs0 hn hd0 hp ⟨rfl, sd_in I2⟩
      · obtain ⟨c, hc, ec, hE, hW⟩ := sd_jn I1 hn
        refine sd_mark hn hc ec ?_
        dsimp only
        unfold wX_crashInSync_41
        refine sd_die (Q := fun om' => ∀ b, b < 16 → ((∃ i, i < c ∧ jb' (n * 16 + i) = nI b) → om' b = co b) ∧ (¬ (∃ i, i < c ∧ jb' (n * 16 + i) = nI b) → om' b = om b)) hn hc ec (Or.inr ⟨by rw [pk_us]; exact sd_10, pk_us, co, fun i hi => ?_, fun om' h => h⟩) (fun om' lk2 cb2 di2 ho hC hO hK hM => ?_)
        · obtain ⟨b, hb, e, w⟩ := hE i hi
          refine ⟨b, hb, e, ?_⟩
          rcases w with w | ⟨j, hj, _, dj⟩
          · exact w
          · exact absurd (hd j hj) dj
        · refine sd_ycs1 hn hd0 hp ⟨rfl, sd_in (sd_g10 I1 hn ec hc hd ho hC hO hK hM (fun m hm => ?_))⟩
          by_cases q : m = n
          · rw [q, pk_us]
          · rw [pk_un q, pk_un q]
            exact I.2.2.2.2.2.2 m hm
end
end
section
/-! a power cut -/
section
variable {R n b k s d : Nat} {fr : Int32} {rn om jc jb jv js jm lk cb cv di hz : Nat → Int32} {co sa ow dn : Nat → Int32}
theorem sd_pcx {post : Int32 → SX → Prop} (I : sd_I R fr rn om jc jb jv jm lk cb cv di hz co sa ow dn) (hk : k < 3)
    (K : ∀ jc' jm' lk' cb' di' : Nat → Int32, sd_I R fr (upd rn k 0) om jc' jb jv jm' lk' cb' cv di' hz (sd_pa 16 sa co ow (nI k)) sa (sd_pa 16 (fun _ => -4) ow ow (nI k)) (upd dn k 1) → wX_powerCut_4 post d (nI (s + sd_cnt (fun b => ow b = nI k) 16)) (nI (k + 1)) fr (upd rn k 0) om jc' jb jv js jm' lk' cb' cv di' hz) :
    wX_powerCut_4 post (d + 1) (nI s) (nI k) fr rn om jc jb jv js jm lk cb cv di hz := by
  rw [wX_powerCut_4]
  refine br_f (nI_ge (b := 3) (by omega) (by omega)) (sd_uc I hk (nm_r (nI_add _ _) (sd_dieI I hk (fun jc' jm' lk' cb' di' I' => ?_))))
  exact nm_r (nI_1 k) (K _ _ _ _ _ I')
theorem sd_pcy {post : Int32 → SY → Prop} (hk : k < 3) (K : wY_powerCut_4 post d (nI (s + sd_cnt (fun b => ow b = nI k) 16)) (nI (k + 1)) (sd_pa 16 sa co ow (nI k)) sa (sd_pa 16 (fun _ => -4) ow ow (nI k)) (upd dn k 0)) :
    wY_powerCut_4 post (d + 1) (nI s) (nI k) co sa ow dn := by
  rw [wY_powerCut_4]
  refine br_f (nI_ge (b := 3) (by omega) (by omega)) (sd_ysd rfl ?_)
  exact nm_r (nI_add _ _) ⟨vp_in_nI hk (by decide), nm_r (e' := upd dn k 0) (by rw [nI_clamp (by omega), sd_b0]) (nm_r (nI_1 k) K)⟩
theorem sd_pc30 {post : Int32 → SX → Prop} {x : Int32} (K : ∀ rn' : Nat → Int32, (∀ n, n < 3 → rn' n = 1) → post x (fr, rn', om, jc, jb, jv, js, jm, lk, cb, cv, di, hz)) : ∃ k, wX_powerCut_30 post x fr k 0 rn om jc jb jv js jm lk cb cv di hz := by
  have L : ∀ d i, ∀ rn' : Nat → Int32, i + d = 3 → (∀ j, j < i → rn' j = 1) → wX_powerCut_30 post x fr (d + 1) (nI i) rn' om jc jb jv js jm lk cb cv di hz := by
    intro d
    induction d with
    | zero =>
      intro i rn' hi h
      rw [wX_powerCut_30]
      exact br_t (nI_le (a := 3) (by omega) (by omega)) (K rn' (fun n hn => h n (by omega)))
    | succ d ih =>
      intro i rn' hi h
      rw [wX_powerCut_30]
      simp (disch := omega) only [nI_clamp, nI_1, sd_b1]
      refine br_f (nI_ge (b := 3) (by omega) (by omega)) ⟨vp_in_nI (by omega) (by decide), nm_e (nm_e (ih (i + 1) _ (by omega) (fun j hj => ?_)))⟩
      by_cases q : j = i
      · rw [q, pk_us]
      · rw [pk_un q]
        exact h j (by omega)
  exact ⟨4, L 3 0 rn (by omega) (fun j hj => by omega)⟩
theorem sd_pcE {post : Int32 → SX → Prop} (K : ∀ rn' : Nat → Int32, (∀ n, n < 3 → rn' n = 1) → post (nI s) (fr, rn', om, jc, jb, jv, js, jm, lk, cb, cv, di, hz)) : wX_powerCut_4 post (d + 1) (nI s) (nI 3) fr rn om jc jb jv js jm lk cb cv di hz := by
  rw [wX_powerCut_4]
  exact br_t (nI_le (a := 3) (b := 3) (by omega) (by omega)) (sd_pc30 K)
theorem sd_pcF {post : Int32 → SY → Prop} (K : post (nI s) (co, sa, ow, dn)) : wY_powerCut_4 post (d + 1) (nI s) (nI 3) co sa ow dn := by
  rw [wY_powerCut_4]
  exact br_t (nI_le (a := 3) (b := 3) (by omega) (by omega)) K
theorem sd_dn3 {d0 : Nat → Int32} (h : n < 3) : upd (upd (upd d0 0 0) 1 0) 2 0 n = 0 := by
  by_cases q2 : n = 2
  · rw [q2, pk_us]
  · rw [pk_un q2]
    by_cases q1 : n = 1
    · rw [q1, pk_us]
    · rw [pk_un q1]
      have q0 : n = 0 := by omega
      rw [q0, pk_us]
theorem i_vc_powerCut {k : Nat} {u : SX} {v : SY} (I : i_Rel k u v) (hk : k + 4 ≤ 2049) : wpX_powerCut (fun r u' => wpY_powerCut (fun r' v' => r' = r ∧ i_Rel (k + 4) u' v') v) u := by
  refine sd_el (P := fun u v => wpX_powerCut (fun r u' => wpY_powerCut (fun r' v' => r' = r ∧ i_Rel (k + 4) u' v') v) u) I ?_
  intro R fr rn om jc jb jv js jm lk cb cv di hz co sa ow dn I
  unfold wpX_powerCut
  refine Exists.intro 4 ?_
  refine sd_pcx (k := 0) (s := 0) I (by omega) (fun jc1 jm1 lk1 cb1 di1 I1 => ?_)
  refine sd_pcx (k := 1) I1 (by omega) (fun jc2 jm2 lk2 cb2 di2 I2 => ?_)
  refine sd_pcx (k := 2) I2 (by omega) (fun jc3 jm3 lk3 cb3 di3 I3 => ?_)
  refine sd_pcE (fun rn' hr => ?_)
  unfold wpY_powerCut
  refine Exists.intro 4 ?_
  refine sd_pcy (k := 0) (s := 0) (by omega) ?_
  refine sd_pcy (k := 1) (by omega) ?_
  refine sd_pcy (k := 2) (by omega) ?_
  refine sd_pcF ⟨rfl, sd_in (sd_gr I3 (fun n hn => ?_))⟩
  rw [hr n hn, sd_dn3 hn]
  exact ⟨fun w => absurd w sd_10, fun w => absurd rfl w⟩
end
end
section
/-! the owed rows: read, write, swap -/
section
theorem i_vc_read {k : Nat} {u : SX} {v : SY} (I : i_Rel k u v) (hk : k + 4 ≤ 2049) (v1 : Int32) (v2 : Int32) : wpX_read (fun r u' => wpY_read (fun r' v' => r' = r ∧ i_Rel (k + 4) u' v') v v1 v2) u v1 v2 := by
  refine sd_el (P := fun u v => wpX_read (fun r u' => wpY_read (fun r' v' => r' = r ∧ i_Rel (k + 4) u' v') v v1 v2) u v1 v2) I ?_
  intro R fr rn om jc jb jv js jm lk cb cv di hz co sa ow dn I
  unfold wpX_read
  rcases sd_nod v1 with h1 | ⟨n, hn, rfl⟩
  · refine sd_xn0 h1 (br_f sd_10 ?_)
    unfold wpY_read
    exact sd_yr1 h1 (br_f sd_n1' ⟨rfl, sd_in I⟩)
  · refine sd_xn1 hn (br_t rfl ?_)
    rcases sd_blk v2 with h2 | ⟨b, hb, rfl⟩
    · refine sd_xb0 h2 (br_f sd_10 ?_)
      unfold wpY_read
      exact sd_yr2 hn h2 (br_f (by decide) ⟨rfl, sd_in I⟩)
    · refine sd_xb1 hb (br_t rfl ⟨vp_in_nI hn (by decide), br_c (fun hr => ?_) (fun hr => ?_)⟩)
      · rw [nI_clamp (by omega)] at hr
        unfold wpY_read
        exact sd_yr4 hn hb hb ((I.2.2.2.2.2.1 n hn).mp hr) (br_f (by decide) ⟨rfl, sd_in I⟩)
      · rw [nI_clamp (by omega)] at hr
        obtain ⟨sa1, ow1, T, hY⟩ := sd_yt (n := n) (dn := dn) hb I.2.2.2.1
        refine sd_rb I hn hb T (fun om' jc' jb' jv' js' jm' lk' cb' cv' di' hz' I' => ?_)
        exact sd_yrd hn hb (sd_up I hn hr) hY ⟨rfl, sd_in I'⟩
theorem i_vc_write {k : Nat} {u : SX} {v : SY} (I : i_Rel k u v) (hk : k + 4 ≤ 2049) (v1 : Int32) (v2 : Int32) (v3 : Int32) : wpX_write (fun r u' => wpY_write (fun r' v' => r' = r ∧ i_Rel (k + 4) u' v') v v1 v2 v3) u v1 v2 v3 := by
  refine sd_el (P := fun u v => wpX_write (fun r u' => wpY_write (fun r' v' => r' = r ∧ i_Rel (k + 4) u' v') v v1 v2 v3) u v1 v2 v3) I ?_
  intro R fr rn om jc jb jv js jm lk cb cv di hz co sa ow dn I
  unfold wpX_write
  rcases sd_nod v1 with h1 | ⟨n, hn, rfl⟩
  · refine sd_xn0 h1 (br_f sd_10 ?_)
    unfold wpY_write
    exact sd_yr1 h1 (br_f sd_n1' ⟨rfl, sd_in I⟩)
  · refine sd_xn1 hn (br_t rfl ?_)
    rcases sd_blk v2 with h2 | ⟨b, hb, rfl⟩
    · refine sd_xb0 h2 (br_f sd_10 ?_)
      unfold wpY_write
      exact sd_yr2 hn h2 (br_f (by decide) ⟨rfl, sd_in I⟩)
    · refine sd_xb1 hb (br_t rfl ⟨vp_in_nI hn (by decide), br_c (fun hr => ?_) (fun hr => ?_)⟩)
      · rw [nI_clamp (by omega)] at hr
        unfold wpY_write
        exact sd_yr4 hn hb hb ((I.2.2.2.2.2.1 n hn).mp hr) (br_f (by decide) ⟨rfl, sd_in I⟩)
      · rw [nI_clamp (by omega)] at hr
        obtain ⟨sa1, ow1, T, hY⟩ := sd_yt (n := n) (dn := dn) hb I.2.2.2.1
        refine sd_wb I hn hb T (fun om' jc' jb' jv' js' jm' lk' cb' cv' di' hz' I' => ?_)
        refine sd_uc I' hn ?_
        exact sd_ywr hn hb (sd_up I hn hr) hY ⟨rfl, sd_in I'⟩
theorem i_vc_swap {k : Nat} {u : SX} {v : SY} (I : i_Rel k u v) (hk : k + 4 ≤ 2049) (v1 : Int32) (v2 : Int32) (v3 : Int32) : wpX_swap (fun r u' => wpY_swap (fun r' v' => r' = r ∧ i_Rel (k + 4) u' v') v v1 v2 v3) u v1 v2 v3 := by
  refine sd_el (P := fun u v => wpX_swap (fun r u' => wpY_swap (fun r' v' => r' = r ∧ i_Rel (k + 4) u' v') v v1 v2 v3) u v1 v2 v3) I ?_
  intro R fr rn om jc jb jv js jm lk cb cv di hz co sa ow dn I
  unfold wpX_swap
  rcases sd_nod v1 with h1 | ⟨n, hn, rfl⟩
  · refine sd_xn0 h1 (br_f sd_10 ?_)
    unfold wpY_swap
    exact sd_yr1 h1 (br_f sd_n1' ⟨rfl, sd_in I⟩)
  · refine sd_xn1 hn (br_t rfl ?_)
    rcases sd_blk v2 with h2 | ⟨a, ha, rfl⟩
    · refine sd_xb0 h2 (br_f sd_10 ?_)
      unfold wpY_swap
      exact sd_yr2 hn h2 (br_f (by decide) ⟨rfl, sd_in I⟩)
    · refine sd_xb1 ha (br_t rfl ?_)
      rcases sd_blk v3 with h3 | ⟨b, hb, rfl⟩
      · refine sd_xb0 h3 (br_f sd_10 ?_)
        unfold wpY_swap
        exact sd_yr3 hn ha h3 (br_f (by decide) ⟨rfl, sd_in I⟩)
      · refine sd_xb1 hb (br_t rfl ⟨vp_in_nI hn (by decide), br_c (fun hr => ?_) (fun hr => ?_)⟩)
        · rw [nI_clamp (by omega)] at hr
          unfold wpY_swap
          exact sd_yr4 hn ha hb ((I.2.2.2.2.2.1 n hn).mp hr) (br_f (by decide) ⟨rfl, sd_in I⟩)
        · rw [nI_clamp (by omega)] at hr
          have hd := sd_up I hn hr
          obtain ⟨sa1, ow1, T1, hY1⟩ := sd_yt (n := n) (dn := dn) ha I.2.2.2.1
          refine sd_rb I hn ha T1 (fun om1 jc1 jb1 jv1 js1 jm1 lk1 cb1 cv1 di1 hz1 I1 => ?_)
          obtain ⟨sa2, ow2, T2, hY2⟩ := sd_yt (n := n) (dn := dn) hb I1.2.2.2.1
          refine sd_rb I1 hn hb T2 (fun om2 jc2 jb2 jv2 js2 jm2 lk2 cb2 cv2 di2 hz2 I2 => ?_)
          obtain ⟨sa3, ow3, T3, hY3⟩ := sd_yt (n := n) (dn := dn) ha I2.2.2.2.1
          refine sd_wb I2 hn ha T3 (fun om3 jc3 jb3 jv3 js3 jm3 lk3 cb3 cv3 di3 hz3 I3 => ?_)
          obtain ⟨sa4, ow4, T4, hY4⟩ := sd_yt (n := n) (dn := dn) hb I3.2.2.2.1
          refine sd_wb I3 hn hb T4 (fun om4 jc4 jb4 jv4 js4 jm4 lk4 cb4 cv4 di4 hz4 I4 => ?_)
          refine sd_uc I4 hn ?_
          unfold wpY_swap
          refine sd_yr0 hn ha hb hd (br_t (by decide) ?_)
          refine sd_yrd hn ha hd hY1 ?_
          refine sd_yrd hn hb hd hY2 ?_
          refine sd_ywr hn ha hd hY3 ?_
          exact sd_ywr hn hb hd hY4 ⟨rfl, sd_in I4⟩
end
end
