section
/-! plain counting, and the log's invariant: no program in sight -/
def zs_cnt (p : Nat → Bool) : Nat → Nat
  | 0 => 0
  | n + 1 => zs_cnt p n + (if p n = true then 1 else 0)
theorem zs_cnt_t {p : Nat → Bool} {n : Nat} (h : p n = true) : zs_cnt p (n + 1) = zs_cnt p n + 1 := by
  show zs_cnt p n + (if p n = true then 1 else 0) = zs_cnt p n + 1
  rw [if_pos h]
theorem zs_cnt_f {p : Nat → Bool} {n : Nat} (h : p n = false) : zs_cnt p (n + 1) = zs_cnt p n := by
  show zs_cnt p n + (if p n = true then 1 else 0) = zs_cnt p n
  rw [if_neg (by rw [h]; decide)]; rfl
theorem zs_cnt_le (p : Nat → Bool) (n : Nat) : zs_cnt p n ≤ n := by
  induction n with
  | zero => exact Nat.le_refl 0
  | succ n ih =>
    cases h : p n with
    | true => rw [zs_cnt_t h]; omega
    | false => rw [zs_cnt_f h]; omega
theorem zs_cnt_mono_n (p : Nat → Bool) (n : Nat) : zs_cnt p n ≤ zs_cnt p (n + 1) := by
  cases h : p n with
  | true => rw [zs_cnt_t h]; omega
  | false => rw [zs_cnt_f h]; omega
theorem zs_cnt_upto (p : Nat → Bool) {a b : Nat} (h : a ≤ b) : zs_cnt p a ≤ zs_cnt p b := by
  induction b with
  | zero => rw [show a = 0 by omega]; exact Nat.le_refl _
  | succ b ih =>
    by_cases e : a = b + 1
    · rw [e]; exact Nat.le_refl _
    · exact Nat.le_trans (ih (by omega)) (zs_cnt_mono_n p b)
theorem zs_cnt_congr {p q : Nat → Bool} {n : Nat} (h : ∀ i, i < n → p i = q i) : zs_cnt p n = zs_cnt q n := by
  induction n with
  | zero => rfl
  | succ n ih =>
    have e := ih (fun i hi => h i (by omega))
    have e2 := h n (by omega)
    cases hq : q n with
    | true => rw [zs_cnt_t hq, zs_cnt_t (e2.trans hq), e]
    | false => rw [zs_cnt_f hq, zs_cnt_f (e2.trans hq), e]
theorem zs_cnt_mono {p q : Nat → Bool} {n : Nat} (h : ∀ i, i < n → p i = true → q i = true) : zs_cnt p n ≤ zs_cnt q n := by
  induction n with
  | zero => exact Nat.le_refl 0
  | succ n ih =>
    have e := ih (fun i hi => h i (by omega))
    cases hp : p n with
    | true => rw [zs_cnt_t hp, zs_cnt_t (h n (by omega) hp)]; omega
    | false => rw [zs_cnt_f hp]; exact Nat.le_trans e (zs_cnt_mono_n q n)
theorem zs_cnt_pos {p : Nat → Bool} {n : Nat} (h : 0 < zs_cnt p n) : ∃ i, i < n ∧ p i = true := by
  induction n with
  | zero => exact absurd h (Nat.lt_irrefl 0)
  | succ n ih =>
    cases hp : p n with
    | true => exact ⟨n, by omega, hp⟩
    | false =>
      rw [zs_cnt_f hp] at h
      obtain ⟨i, hi, e⟩ := ih h
      exact ⟨i, by omega, e⟩
theorem zs_cnt_in {p : Nat → Bool} {n i : Nat} (hi : i < n) (h : p i = true) : 0 < zs_cnt p n := by
  have e := zs_cnt_upto p (show i + 1 ≤ n from hi)
  rw [zs_cnt_t h] at e
  omega
theorem zs_cnt_0 {p : Nat → Bool} {n : Nat} (h : ∀ i, i < n → p i = false) : zs_cnt p n = 0 := by
  rcases Nat.eq_zero_or_pos (zs_cnt p n) with e | e
  · exact e
  · obtain ⟨i, hi, e⟩ := zs_cnt_pos e
    rw [h i hi] at e
    exact absurd e (by decide)
theorem zs_cnt_del {p q : Nat → Bool} {n k : Nat} (hk : k < n) (hp : p k = true) (hq : q k = false) (h : ∀ i, i < n → i ≠ k → p i = q i) : zs_cnt p n = zs_cnt q n + 1 := by
  induction n with
  | zero => exact absurd hk (by omega)
  | succ n ih =>
    by_cases e : k = n
    · subst e
      rw [zs_cnt_t hp, zs_cnt_f hq, zs_cnt_congr (fun i hi => h i (by omega) (by omega))]
    · have e1 := ih (by omega) (fun i hi hn => h i (by omega) hn)
      have e2 := h n (by omega) (by omega)
      cases hx : q n with
      | true => rw [zs_cnt_t hx, zs_cnt_t (e2.trans hx), e1]
      | false => rw [zs_cnt_f hx, zs_cnt_f (e2.trans hx), e1]
theorem zs_cnt_iv {p : Nat → Bool} {a c n : Nat} (h : ∀ i, i < n → (p i = true ↔ a ≤ i ∧ i < c)) (hac : a ≤ c) : zs_cnt p n = min c n - min a n := by
  induction n with
  | zero => show 0 = _; omega
  | succ n ih =>
    have e := ih (fun i hi => h i (by omega))
    have e2 := h n (by omega)
    cases hp : p n with
    | true =>
      rw [hp] at e2
      have e3 := e2.mp rfl
      rw [zs_cnt_t hp, e]; omega
    | false =>
      rw [hp] at e2
      have e3 : ¬ (a ≤ n ∧ n < c) := fun z => absurd (e2.mpr z) (by decide)
      rw [zs_cnt_f hp, e]; omega
/-- a place of a Nat array is written -/
def zs_up (f : Nat → Nat) (k x : Nat) : Nat → Nat := fun j => if j = k then x else f j
theorem zs_us {f : Nat → Nat} {k x : Nat} : zs_up f k x k = x := if_pos rfl
theorem zs_un {f : Nat → Nat} {k x j : Nat} (h : j ≠ k) : zs_up f k x j = f j := if_neg h
/-- a table's number: 0 is none -/
def zs_m : Nat → Int32
  | 0 => -1
  | n + 1 => nI n
theorem zs_ne1 {n : Nat} (h : n < 2 ^ 31) : ¬ nI n = -1 := by
  intro e
  have e2 := congrArg Int32.toInt e
  rw [nI_toInt h] at e2
  have e3 : (-1 : Int32).toInt = -1 := by decide
  rw [e3] at e2
  omega
theorem zs_upf (f : Nat → Nat) (k x : Nat) : upd (fun i => nI (f i)) k (nI x) = fun i => nI (zs_up f k x i) := by
  funext j
  show (if j = k then nI x else nI (f j)) = nI (if j = k then x else f j)
  by_cases e : j = k
  · rw [if_pos e, if_pos e]
  · rw [if_neg e, if_neg e]
theorem zs_umf (f : Nat → Nat) (k x : Nat) : upd (fun i => zs_m (f i)) k (zs_m x) = fun i => zs_m (zs_up f k x i) := by
  funext j
  show (if j = k then zs_m x else zs_m (f j)) = zs_m (if j = k then x else f j)
  by_cases e : j = k
  · rw [if_pos e, if_pos e]
  · rw [if_neg e, if_neg e]
/-- the place is filled -/
def zs_live (F : Nat → Nat) (a : Nat) : Prop := a % 12 < F (a / 12)
/-- there is a mark for the group -/
def zs_mk (B G F : Nat → Nat) (g : Nat) : Prop := ∃ m, m < 72 ∧ zs_live F m ∧ B m = 16 ∧ G m = g
/-- the log and the table that it stands for -/
def zs_L (B G F T : Nat → Nat) (gn : Nat) : Prop :=
  (∀ z, z < 6 → F z ≤ 12) ∧
  (∀ a, a < 72 → zs_live F a → B a ≤ 16 ∧ G a ≤ gn) ∧
  (∀ a a', a < 72 → a' < 72 → zs_live F a → zs_live F a' → B a = B a' → G a = G a' → a = a') ∧
  (∀ a a', a < 72 → a' < 72 → zs_live F a → zs_live F a' → G a = G a' → a / 12 = a' / 12) ∧
  (∀ b, b < 16 → T b = 0 → ∀ a, a < 72 → zs_live F a → B a = b → ¬ zs_mk B G F (G a)) ∧
  (∀ b t, b < 16 → T b = t + 1 → t < 72 ∧ zs_live F t ∧ B t = b ∧ zs_mk B G F (G t) ∧ ∀ a, a < 72 → zs_live F a → B a = b → zs_mk B G F (G a) → G a ≤ G t)
theorem zs_L_grow {B G F T : Nat → Nat} {g g' : Nat} (h : zs_L B G F T g) (hg : g ≤ g') : zs_L B G F T g' :=
  ⟨h.1, fun a ha hl => ⟨(h.2.1 a ha hl).1, Nat.le_trans (h.2.1 a ha hl).2 hg⟩, h.2.2⟩
theorem zs_L_tab {B G F T T' : Nat → Nat} {g : Nat} (h : zs_L B G F T g) (e : ∀ b, b < 16 → T' b = T b) : zs_L B G F T' g :=
  ⟨h.1, h.2.1, h.2.2.1, h.2.2.2.1, fun b hb h0 => h.2.2.2.2.1 b hb ((e b hb).symm.trans h0), fun b t hb h0 => h.2.2.2.2.2 b t hb ((e b hb).symm.trans h0)⟩
theorem zs_L_T {B G F T : Nat → Nat} {g : Nat} (h : zs_L B G F T g) {b : Nat} (hb : b < 16) : T b ≤ 72 := by
  cases e : T b with
  | zero => omega
  | succ t =>
    have := (h.2.2.2.2.2 b t hb e).1
    omega
/-- one more place of zone za is filled -/
theorem zs_live_up {F : Nat → Nat} {za : Nat} (hf : F za < 12) (a : Nat) : zs_live (zs_up F za (F za + 1)) a ↔ zs_live F a ∨ a = 12 * za + F za := by
  unfold zs_live
  by_cases e : a / 12 = za
  · rw [e, zs_us]
    constructor
    · intro h
      by_cases e2 : a % 12 < F za
      · exact Or.inl e2
      · exact Or.inr (by omega)
    · intro h
      rcases h with h | h
      · omega
      · omega
  · rw [zs_un e]
    constructor
    · exact fun h => Or.inl h
    · intro h
      rcases h with h | h
      · exact h
      · exact absurd h (by omega)
theorem zs_live_nx {F : Nat → Nat} {za : Nat} (hf : F za < 12) {a : Nat} (h : zs_live F a) : a ≠ 12 * za + F za := by
  intro e
  unfold zs_live at h
  have e1 : a / 12 = za := by omega
  rw [e1] at h
  omega
/-- a record of the group under way, which has no mark yet -/
theorem zs_L_app {B G F T : Nat → Nat} {g za b : Nat} (h : zs_L B G F T g) (hz : za < 6) (hf : F za < 12) (hb : b < 16)
    (hn : ∀ a, a < 72 → zs_live F a → G a = g → B a < b ∧ a / 12 = za) :
    zs_L (zs_up B (12 * za + F za) b) (zs_up G (12 * za + F za) g) (zs_up F za (F za + 1)) T g := by
  obtain ⟨h1, h2, h3, h4, h5, h6⟩ := h
  have lv := zs_live_up (F := F) (za := za) hf
  have nx : ∀ a, zs_live F a → a ≠ 12 * za + F za := fun a => zs_live_nx hf
  have nm : ∀ x, zs_mk (zs_up B (12 * za + F za) b) (zs_up G (12 * za + F za) g) (zs_up F za (F za + 1)) x ↔ zs_mk B G F x := by
    intro x
    constructor
    · intro hm
      obtain ⟨m, m1, m2, m3, m4⟩ := hm
      rcases (lv m).mp m2 with e | e
      · rw [zs_un (nx m e)] at m3 m4
        exact ⟨m, m1, e, m3, m4⟩
      · rw [e, zs_us] at m3
        exact absurd m3 (by omega)
    · intro hm
      obtain ⟨m, m1, m2, m3, m4⟩ := hm
      exact ⟨m, m1, (lv m).mpr (Or.inl m2), by rw [zs_un (nx m m2)]; exact m3, by rw [zs_un (nx m m2)]; exact m4⟩
  refine ⟨?_, ?_, ?_, ?_, ?_, ?_⟩
  · intro z hz'
    by_cases e : z = za
    · rw [e, zs_us]; omega
    · rw [zs_un e]; exact h1 z hz'
  · intro a ha hl
    rcases (lv a).mp hl with e | e
    · rw [zs_un (nx a e), zs_un (nx a e)]; exact h2 a ha e
    · rw [e, zs_us, zs_us]; omega
  · intro a a' ha ha' hl hl' eb eg
    rcases (lv a).mp hl with e | e
    · rw [zs_un (nx a e)] at eb eg
      rcases (lv a').mp hl' with e' | e'
      · rw [zs_un (nx a' e')] at eb eg
        exact h3 a a' ha ha' e e' eb eg
      · rw [e', zs_us] at eb eg
        have := (hn a ha e eg).1
        omega
    · rw [e, zs_us] at eb eg
      rcases (lv a').mp hl' with e' | e'
      · rw [zs_un (nx a' e')] at eb eg
        have := (hn a' ha' e' eg.symm).1
        omega
      · omega
  · intro a a' ha ha' hl hl' eg
    rcases (lv a).mp hl with e | e
    · rw [zs_un (nx a e)] at eg
      rcases (lv a').mp hl' with e' | e'
      · rw [zs_un (nx a' e')] at eg
        exact h4 a a' ha ha' e e' eg
      · rw [e', zs_us] at eg
        have := (hn a ha e eg).2
        omega
    · rw [e, zs_us] at eg
      rcases (lv a').mp hl' with e' | e'
      · rw [zs_un (nx a' e')] at eg
        have := (hn a' ha' e' eg.symm).2
        omega
      · omega
  · intro b' hb' h0 a ha hl eb
    rcases (lv a).mp hl with e | e
    · rw [zs_un (nx a e)] at eb ⊢
      rw [nm]
      exact h5 b' hb' h0 a ha e eb
    · rw [e, zs_us, nm]
      intro hm
      obtain ⟨m, m1, m2, m3, m4⟩ := hm
      have := (hn m m1 m2 m4).1
      omega
  · intro b' t hb' h0
    obtain ⟨t1, t2, t3, t4, t5⟩ := h6 b' t hb' h0
    refine ⟨t1, (lv t).mpr (Or.inl t2), by rw [zs_un (nx t t2)]; exact t3, by rw [zs_un (nx t t2), nm]; exact t4, ?_⟩
    intro a ha hl eb hm
    rcases (lv a).mp hl with e | e
    · rw [zs_un (nx a e)] at eb hm ⊢
      rw [zs_un (nx t t2)]
      exact t5 a ha e eb ((nm _).mp hm)
    · rw [e, zs_us, nm] at hm
      obtain ⟨m, m1, m2, m3, m4⟩ := hm
      have := (hn m m1 m2 m4).1
      omega
/-- what a group's records are, behind the record -/
theorem zs_grp_app {B G F : Nat → Nat} {D : Nat → Bool} {g za b : Nat} (hf : F za < 12) (hd : D b = true)
    (hn : ∀ a, a < 72 → zs_live F a → G a = g → B a < b ∧ a / 12 = za ∧ D (B a) = true) :
    ∀ a, a < 72 → zs_live (zs_up F za (F za + 1)) a → zs_up G (12 * za + F za) g a = g → zs_up B (12 * za + F za) b a < b + 1 ∧ a / 12 = za ∧ D (zs_up B (12 * za + F za) b a) = true := by
  intro a ha hl eg
  rcases (zs_live_up hf a).mp hl with e | e
  · rw [zs_un (zs_live_nx hf e)] at eg ⊢
    obtain ⟨n1, n2, n3⟩ := hn a ha e eg
    exact ⟨by omega, n2, n3⟩
  · rw [e, zs_us]
    exact ⟨by omega, by omega, hd⟩
/-- the mark: the group counts from here on -/
theorem zs_L_mark {B G F T T0 : Nat → Nat} {D : Nat → Bool} {g za : Nat} (h : zs_L B G F T0 g) (hz : za < 6) (hf : F za < 12)
    (hn : ∀ a, a < 72 → zs_live F a → G a = g → B a < 16 ∧ a / 12 = za ∧ D (B a) = true)
    (ht : ∀ b, b < 16 → D b = true → ∃ t, T b = t + 1 ∧ t < 72 ∧ zs_live F t ∧ B t = b ∧ G t = g)
    (ho : ∀ b, b < 16 → D b = false → T b = T0 b) :
    zs_L (zs_up B (12 * za + F za) 16) (zs_up G (12 * za + F za) g) (zs_up F za (F za + 1)) T g := by
  obtain ⟨h1, h2, h3, h4, h5, h6⟩ := h
  have lv := zs_live_up (F := F) (za := za) hf
  have nx : ∀ a, zs_live F a → a ≠ 12 * za + F za := fun a => zs_live_nx hf
  have nm : ∀ x, zs_mk (zs_up B (12 * za + F za) 16) (zs_up G (12 * za + F za) g) (zs_up F za (F za + 1)) x ↔ zs_mk B G F x ∨ x = g := by
    intro x
    constructor
    · intro hm
      obtain ⟨m, m1, m2, m3, m4⟩ := hm
      rcases (lv m).mp m2 with e | e
      · rw [zs_un (nx m e)] at m3 m4
        exact Or.inl ⟨m, m1, e, m3, m4⟩
      · rw [e, zs_us] at m4
        exact Or.inr m4.symm
    · intro hm
      rcases hm with hm | hm
      · obtain ⟨m, m1, m2, m3, m4⟩ := hm
        exact ⟨m, m1, (lv m).mpr (Or.inl m2), by rw [zs_un (nx m m2)]; exact m3, by rw [zs_un (nx m m2)]; exact m4⟩
      · exact ⟨12 * za + F za, by omega, (lv _).mpr (Or.inr rfl), zs_us, by rw [zs_us, hm]⟩
  have g2 : ∀ a, a < 72 → zs_live (zs_up F za (F za + 1)) a → zs_up B (12 * za + F za) 16 a ≤ 16 ∧ zs_up G (12 * za + F za) g a ≤ g := by
    intro a ha hl
    rcases (lv a).mp hl with e | e
    · rw [zs_un (nx a e), zs_un (nx a e)]; exact h2 a ha e
    · rw [e, zs_us, zs_us]; omega
  refine ⟨?_, g2, ?_, ?_, ?_, ?_⟩
  · intro z hz'
    by_cases e : z = za
    · rw [e, zs_us]; omega
    · rw [zs_un e]; exact h1 z hz'
  · intro a a' ha ha' hl hl' eb eg
    rcases (lv a).mp hl with e | e
    · rw [zs_un (nx a e)] at eb eg
      rcases (lv a').mp hl' with e' | e'
      · rw [zs_un (nx a' e')] at eb eg
        exact h3 a a' ha ha' e e' eb eg
      · rw [e', zs_us] at eb eg
        have := (hn a ha e eg).1
        omega
    · rw [e, zs_us] at eb eg
      rcases (lv a').mp hl' with e' | e'
      · rw [zs_un (nx a' e')] at eb eg
        have := (hn a' ha' e' eg.symm).1
        omega
      · omega
  · intro a a' ha ha' hl hl' eg
    rcases (lv a).mp hl with e | e
    · rw [zs_un (nx a e)] at eg
      rcases (lv a').mp hl' with e' | e'
      · rw [zs_un (nx a' e')] at eg
        exact h4 a a' ha ha' e e' eg
      · rw [e', zs_us] at eg
        have := (hn a ha e eg).2.1
        omega
    · rw [e, zs_us] at eg
      rcases (lv a').mp hl' with e' | e'
      · rw [zs_un (nx a' e')] at eg
        have := (hn a' ha' e' eg.symm).2.1
        omega
      · omega
  · intro b hb h0 a ha hl eb
    rcases (lv a).mp hl with e | e
    · rw [zs_un (nx a e)] at eb ⊢
      rw [nm]
      have hD : D b = false := by
        cases hd : D b with
        | false => rfl
        | true =>
          obtain ⟨t, t1, _⟩ := ht b hb hd
          omega
      intro hm
      rcases hm with hm | hm
      · exact h5 b hb ((ho b hb hD).symm.trans h0) a ha e eb hm
      · have := (hn a ha e hm).2.2
        rw [eb, hD] at this
        exact absurd this (by decide)
    · rw [e, zs_us] at eb
      omega
  · intro b t hb h0
    cases hD : D b with
    | true =>
      obtain ⟨t', t1, t2, t3, t4, t5⟩ := ht b hb hD
      have et : t = t' := by omega
      subst et
      refine ⟨t2, (lv t).mpr (Or.inl t3), by rw [zs_un (nx t t3)]; exact t4, by rw [zs_un (nx t t3), nm]; exact Or.inr t5, ?_⟩
      intro a ha hl eb hm
      rw [zs_un (nx t t3), t5]
      exact (g2 a ha hl).2
    | false =>
      obtain ⟨t1, t2, t3, t4, t5⟩ := h6 b t hb ((ho b hb hD).symm.trans h0)
      refine ⟨t1, (lv t).mpr (Or.inl t2), by rw [zs_un (nx t t2)]; exact t3, by rw [zs_un (nx t t2), nm]; exact Or.inl t4, ?_⟩
      intro a ha hl eb hm
      rcases (lv a).mp hl with e | e
      · rw [zs_un (nx a e)] at eb hm ⊢
        rw [zs_un (nx t t2)]
        rcases (nm _).mp hm with hm | hm
        · exact t5 a ha e eb hm
        · have := (hn a ha e hm).2.2
          rw [eb, hD] at this
          exact absurd this (by decide)
      · rw [e, zs_us] at eb
        omega
/-- a zone that holds nothing of the table is emptied -/
theorem zs_L_empty {B G F T : Nat → Nat} {g z : Nat} (h : zs_L B G F T g) (hz : ∀ b t, b < 16 → T b = t + 1 → t / 12 ≠ z) : zs_L B G (zs_up F z 0) T g := by
  obtain ⟨h1, h2, h3, h4, h5, h6⟩ := h
  have lv : ∀ a, zs_live (zs_up F z 0) a → zs_live F a := by
    intro a ha
    unfold zs_live at ha ⊢
    by_cases e : a / 12 = z
    · rw [e, zs_us] at ha; omega
    · rw [zs_un e] at ha; exact ha
  have lw : ∀ a, zs_live F a → a / 12 ≠ z → zs_live (zs_up F z 0) a := by
    intro a ha e
    unfold zs_live at ha ⊢
    rw [zs_un e]; exact ha
  have nm : ∀ x, zs_mk B G (zs_up F z 0) x → zs_mk B G F x := by
    intro x hm
    obtain ⟨m, m1, m2, m3⟩ := hm
    exact ⟨m, m1, lv m m2, m3⟩
  refine ⟨?_, fun a ha hl => h2 a ha (lv a hl), fun a a' ha ha' hl hl' => h3 a a' ha ha' (lv a hl) (lv a' hl'), fun a a' ha ha' hl hl' => h4 a a' ha ha' (lv a hl) (lv a' hl'), fun b hb h0 a ha hl eb hm => h5 b hb h0 a ha (lv a hl) eb (nm _ hm), ?_⟩
  · intro z' hz'
    by_cases e : z' = z
    · rw [e, zs_us]; omega
    · rw [zs_un e]; exact h1 z' hz'
  · intro b t hb h0
    obtain ⟨t1, t2, t3, t4, t5⟩ := h6 b t hb h0
    refine ⟨t1, lw t t2 (hz b t hb h0), t3, ?_, fun a ha hl eb hm => t5 a ha (lv a hl) eb (nm _ hm)⟩
    obtain ⟨m, m1, m2, m3, m4⟩ := t4
    refine ⟨m, m1, lw m m2 ?_, m3, m4⟩
    rw [h4 m t m1 t1 m2 t2 m4]
    exact hz b t hb h0
/-- the empty log -/
theorem zs_L_0 {B G F T : Nat → Nat} (hF : ∀ z, F z = 0) (hT : ∀ b, b < 16 → T b = 0) : zs_L B G F T 0 := by
  have nl : ∀ a, ¬ zs_live F a := by
    intro a ha
    unfold zs_live at ha
    rw [hF] at ha
    omega
  refine ⟨fun z _ => by rw [hF]; omega, fun a _ hl => absurd hl (nl a), fun a _ _ _ hl => absurd hl (nl a), fun a _ _ _ hl => absurd hl (nl a), fun b _ _ a _ hl => absurd hl (nl a), fun b t hb h0 => ?_⟩
  rw [hT b hb] at h0
  omega
/-- the table up to a place: what recovery has found -/
def zs_Rc (B G F T : Nat → Nat) (x : Nat) : Prop :=
  (∀ b, b < 16 → T b = 0 → ∀ a, a < x → zs_live F a → B a = b → ¬ zs_mk B G F (G a)) ∧
  (∀ b t, b < 16 → T b = t + 1 → t < x ∧ zs_live F t ∧ B t = b ∧ zs_mk B G F (G t) ∧ ∀ a, a < x → zs_live F a → B a = b → zs_mk B G F (G a) → G a ≤ G t)
theorem zs_Rc_0 {B G F T : Nat → Nat} (h : ∀ b, b < 16 → T b = 0) : zs_Rc B G F T 0 :=
  ⟨fun _ _ _ a ha => absurd ha (by omega), fun b t hb h0 => absurd ((h b hb).symm.trans h0) (by omega)⟩
/-- a place that adds nothing -/
theorem zs_Rc_skip {B G F T : Nat → Nat} {x : Nat} (h : zs_Rc B G F T x) (hx : ¬ (zs_live F x ∧ B x < 16 ∧ zs_mk B G F (G x))) : zs_Rc B G F T (x + 1) := by
  refine ⟨fun b hb h0 a ha hl eb hm => ?_, fun b t hb h0 => ?_⟩
  · by_cases e : a = x
    · subst e
      exact hx ⟨hl, by omega, hm⟩
    · exact h.1 b hb h0 a (by omega) hl eb hm
  · obtain ⟨t1, t2, t3, t4, t5⟩ := h.2 b t hb h0
    refine ⟨by omega, t2, t3, t4, fun a ha hl eb hm => ?_⟩
    by_cases e : a = x
    · subst e
      exact absurd (⟨hl, by omega, hm⟩ : zs_live F a ∧ B a < 16 ∧ zs_mk B G F (G a)) hx
    · exact t5 a (by omega) hl eb hm
/-- a counting place that isn't later than what stands there -/
theorem zs_Rc_keep {B G F T : Nat → Nat} {x t : Nat} (h : zs_Rc B G F T x) (h0 : T (B x) = t + 1) (hg : G x ≤ G t) : zs_Rc B G F T (x + 1) := by
  refine ⟨fun b hb hb0 a ha hl eb hm => ?_, fun b t' hb ht => ?_⟩
  · by_cases e : a = x
    · subst e
      rw [eb] at h0
      omega
    · exact h.1 b hb hb0 a (by omega) hl eb hm
  · obtain ⟨t1, t2, t3, t4, t5⟩ := h.2 b t' hb ht
    refine ⟨by omega, t2, t3, t4, fun a ha hl eb hm => ?_⟩
    by_cases e : a = x
    · subst e
      rw [eb, ht] at h0
      have : t' = t := by omega
      rw [this]; exact hg
    · exact t5 a (by omega) hl eb hm
/-- a counting place that is later -/
theorem zs_Rc_put {B G F T : Nat → Nat} {x : Nat} (h : zs_Rc B G F T x) (hl : zs_live F x) (hm : zs_mk B G F (G x)) (hg : ∀ t, T (B x) = t + 1 → G t ≤ G x) (hb : B x < 16) : zs_Rc B G F (zs_up T (B x) (x + 1)) (x + 1) := by
  refine ⟨fun b hb hb0 a ha hla eb hma => ?_, fun b t' hb' ht => ?_⟩
  · by_cases e : b = B x
    · rw [e, zs_us] at hb0
      omega
    · rw [zs_un e] at hb0
      by_cases e2 : a = x
      · subst e2
        exact e eb.symm
      · exact h.1 b hb hb0 a (by omega) hla eb hma
  · by_cases e : b = B x
    · rw [e, zs_us] at ht
      have et : t' = x := by omega
      subst et
      refine ⟨by omega, hl, e.symm, hm, fun a ha hla eb hma => ?_⟩
      by_cases e2 : a = t'
      · rw [e2]; exact Nat.le_refl _
      · cases e3 : T (B t') with
        | zero => exact absurd hma (h.1 (B t') hb e3 a (by omega) hla (eb.trans e))
        | succ t =>
          obtain ⟨u1, u2, u3, u4, u5⟩ := h.2 (B t') t hb e3
          exact Nat.le_trans (u5 a (by omega) hla (eb.trans e) hma) (hg t e3)
    · rw [zs_un e] at ht
      obtain ⟨t1, t2, t3, t4, t5⟩ := h.2 b t' hb' ht
      refine ⟨by omega, t2, t3, t4, fun a ha hla eb hma => ?_⟩
      by_cases e2 : a = x
      · subst e2
        exact absurd eb.symm e
      · exact t5 a (by omega) hla eb hma
/-- recovery finds the table -/
theorem zs_Rc_fin {B G F T T' : Nat → Nat} {g : Nat} (h : zs_L B G F T g) (hr : zs_Rc B G F T' 72) : ∀ b, b < 16 → T' b = T b := by
  obtain ⟨h1, h2, h3, h4, h5, h6⟩ := h
  intro b hb
  cases e : T b with
  | zero =>
    cases e' : T' b with
    | zero => rfl
    | succ t =>
      obtain ⟨u1, u2, u3, u4, u5⟩ := hr.2 b t hb e'
      exact absurd u4 (h5 b hb e t u1 u2 u3)
  | succ t =>
    obtain ⟨t1, t2, t3, t4, t5⟩ := h6 b t hb e
    cases e' : T' b with
    | zero => exact absurd t4 (hr.1 b hb e' t t1 t2 t3)
    | succ t' =>
      obtain ⟨u1, u2, u3, u4, u5⟩ := hr.2 b t' hb e'
      have g1 := t5 t' u1 u2 u3 u4
      have g2 := u5 t t1 t2 t3 t4
      have := h3 t' t u1 t1 u2 t2 (u3.trans t3.symm) (by omega)
      omega
/-- the value that the table holds for a block -/
def zs_st (V : Nat → Int32) (T : Nat → Nat) (b : Nat) : Int32 := match T b with
  | 0 => 0
  | t + 1 => V t
theorem zs_st_0 {V : Nat → Int32} {T : Nat → Nat} {b : Nat} (h : T b = 0) : zs_st V T b = 0 := by
  unfold zs_st
  rw [h]
theorem zs_st_s {V : Nat → Int32} {T : Nat → Nat} {b t : Nat} (h : T b = t + 1) : zs_st V T b = V t := by
  unfold zs_st
  rw [h]
/-- a place outside the table is written: the values stay -/
theorem zs_st_upd {V : Nat → Int32} {T : Nat → Nat} {b p : Nat} {v : Int32} (h : ∀ t, T b = t + 1 → t ≠ p) : zs_st (upd V p v) T b = zs_st V T b := by
  cases e : T b with
  | zero => rw [zs_st_0 e, zs_st_0 e]
  | succ t => rw [zs_st_s e, zs_st_s e, pk_un (h t e)]
end
section
/-! the small methods, each at any state -/
def zs_D (d : Nat → Int32) : Nat → Bool := fun b => if d b = 0 then false else true
theorem zs_D_f {d : Nat → Int32} {b : Nat} (h : d b = 0) : zs_D d b = false := if_pos h
theorem zs_D_t {d : Nat → Int32} {b : Nat} (h : ¬ d b = 0) : zs_D d b = true := if_neg h
theorem zs_D_of {d : Nat → Int32} {b : Nat} (h : zs_D d b = true) : ¬ d b = 0 := fun e => by
  rw [zs_D_f e] at h
  exact absurd h (by decide)
def zs_lvp (t : Nat → Int32) (x : Int32) : Nat → Bool := fun b => if t b = -1 then false else if t b / 12 = x then true else false
def zs_ezp (o : Nat → Int32) : Nat → Bool := fun z => if o z = -1 then true else false
theorem zs_ezp_t {o : Nat → Int32} {z : Nat} (h : o z = -1) : zs_ezp o z = true := if_pos h
theorem zs_ezp_f {o : Nat → Int32} {z : Nat} (h : ¬ o z = -1) : zs_ezp o z = false := if_neg h
theorem zs_ezp_of {o : Nat → Int32} {z : Nat} (h : zs_ezp o z = true) : o z = -1 := by
  by_cases e : o z = -1
  · exact e
  · rw [zs_ezp_f e] at h
    exact absurd h (by decide)
theorem zs_c12 : ¬ (12 : Int32) = 0 := by decide
theorem zs_put {s : Nat → Int32} {i k : Nat} {x : Int32} (hk : k = i) (h : ∀ b, b < i → s b = x) : ∀ b, b < i + 1 → upd s k x b = x := by
  intro b hb
  rw [hk]
  by_cases e : b = i
  · rw [e, pk_us]
  · rw [pk_un e]
    exact h b (by omega)
theorem zs_putN {s : Nat → Nat} {i x : Nat} (h : ∀ b, b < i → s b = x) : ∀ b, b < i + 1 → zs_up s i x b = x := by
  intro b hb
  by_cases e : b = i
  · rw [e, zs_us]
  · rw [zs_un e]
    exact h b (by omega)
section
variable {post : Int32 → Prop} {pS : St2 → Prop} {pR : Int32 → St2 → Prop} {r g act gn on : Int32} {a1 a2 a3 a4 a5 a6 a7 a8 : Nat → Int32}
theorem zs_dc (H : post (nI (zs_cnt (zs_D a8) 16))) : wpX_dirtyCount post (r, g, act, gn, on, a1, a2, a3, a4, a5, a6, a7, a8) :=
  pk_loop (σ := Unit) (fun n i _ => wX_dirtyCount_4 post r g act gn on a1 a2 a3 a4 a5 a6 a7 a8 n (nI (zs_cnt (zs_D a8) i)) (nI i)) (fun _ _ => True) 16 0 () (by omega) trivial
    (fun n _ _ => pk_le 16 16 (fun _ => H) (fun z => absurd z (by omega)))
    (fun n i _ hi _ hw => by
      refine pk_le 16 i (fun z => absurd z (by omega)) (fun _ => ⟨pk_in i 16 hi, ?_⟩)
      rw [nI_clamp (show i < 2 ^ 31 by omega)]
      exact br_c (fun e => nm_r (e' := nI (zs_cnt (zs_D a8) (i + 1))) (by rw [zs_cnt_f (zs_D_f e)]; exact Int32.add_zero _) (nm_r (nI_1 i) (hw () trivial)))
        (fun e => nm_r (e' := nI (zs_cnt (zs_D a8) (i + 1))) (by rw [zs_cnt_t (zs_D_t e), nI_succ]) (nm_r (nI_1 i) (hw () trivial))))
theorem zs_oz {z : Nat} (hz : z < 6) (h1 : a5 z = -1) (h2 : ∀ i, i < z → ¬ a5 i = -1) (H : pS (r, g, nI z, gn, on + 1, a1, a2, a3, upd a4 z 0, upd a5 z (on + 1), a6, a7, a8)) : wpX_openZone pS (r, g, act, gn, on, a1, a2, a3, a4, a5, a6, a7, a8) :=
  pk_loop (σ := Unit) (fun n i _ => wX_openZone_2 pS r g act gn on a1 a2 a3 a4 a5 a6 a7 a8 n (nI i)) (fun _ _ => True) z 0 () (by omega) trivial
    (fun n _ _ => by
      refine pk_le 6 z (fun z => absurd z (by omega)) (fun _ => ⟨pk_in z 6 hz, ?_⟩)
      rw [nI_clamp (show z < 2 ^ 31 by omega)]
      exact br_t h1 (nm_e ⟨pk_in z 6 hz, nm_e ⟨pk_in z 6 hz, nm_e H⟩⟩))
    (fun n i _ hi _ hw => by
      refine pk_le 6 i (fun z => absurd z (by omega)) (fun _ => ⟨pk_in i 6 (by omega), ?_⟩)
      rw [nI_clamp (show i < 2 ^ 31 by omega)]
      exact br_f (h2 i hi) (nm_r (nI_1 i) (hw () trivial)))
theorem zs_lv {x : Int32} (H : post (nI (zs_cnt (zs_lvp a6 x) 16))) : wpX_living post (r, g, act, gn, on, a1, a2, a3, a4, a5, a6, a7, a8) x :=
  pk_loop (σ := Unit) (fun n i _ => wX_living_4 post x r g act gn on a1 a2 a3 a4 a5 a6 a7 a8 n (nI (zs_cnt (zs_lvp a6 x) i)) (nI i)) (fun _ _ => True) 16 0 () (by omega) trivial
    (fun n _ _ => pk_le 16 16 (fun _ => H) (fun z => absurd z (by omega)))
    (fun n i _ hi _ hw => by
      refine pk_le 16 i (fun z => absurd z (by omega)) (fun _ => ⟨pk_in i 16 hi, ?_⟩)
      rw [nI_clamp (show i < 2 ^ 31 by omega)]
      refine br_c (fun e => nm_r (e' := nI (zs_cnt (zs_lvp a6 x) (i + 1))) ?_ (nm_r (nI_1 i) (hw () trivial))) (fun e => ⟨pk_in i 16 hi, zs_c12, br_c (fun e2 => nm_r (e' := nI (zs_cnt (zs_lvp a6 x) (i + 1))) ?_ (nm_r (nI_1 i) (hw () trivial))) (fun e2 => nm_r (e' := nI (zs_cnt (zs_lvp a6 x) (i + 1))) ?_ (nm_r (nI_1 i) (hw () trivial)))⟩)
      · rw [zs_cnt_f (if_pos e : zs_lvp a6 x i = false)]; exact Int32.add_zero _
      · rw [zs_cnt_t ((if_neg e).trans (if_pos e2) : zs_lvp a6 x i = true), nI_succ]
      · rw [zs_cnt_f ((if_neg e).trans (if_neg e2) : zs_lvp a6 x i = false)]; exact Int32.add_zero _)
theorem zs_po (H : ∀ x, post x) : wpX_poorest post (r, g, act, gn, on, a1, a2, a3, a4, a5, a6, a7, a8) :=
  pk_loop (σ := Int32) (fun n i s => wX_poorest_4 post r g act gn on a1 a2 a3 a4 a5 a6 a7 a8 n s (nI i)) (fun _ _ => True) 6 0 (-1) (by omega) trivial
    (fun n s _ => pk_le 6 6 (fun _ => H s) (fun z => absurd z (by omega)))
    (fun n i s hi _ hw => pk_le 6 i (fun z => absurd z (by omega)) (fun _ => br_c (fun _ => nm_r (nI_1 i) (hw _ trivial)) (fun _ => ⟨pk_in i 6 hi, br_c (fun _ => nm_r (nI_1 i) (hw _ trivial)) (fun _ => br_c (fun _ => nm_r (nI_1 i) (hw _ trivial)) (fun _ => zs_lv (zs_lv (br_c (fun _ => nm_r (nI_1 i) (hw _ trivial)) (fun _ => nm_r (nI_1 i) (hw _ trivial))))))⟩)))
theorem zs_ez (H : post (nI (zs_cnt (zs_ezp a5) 6))) : wpX_emptyZones post (r, g, act, gn, on, a1, a2, a3, a4, a5, a6, a7, a8) :=
  pk_loop (σ := Unit) (fun n i _ => wX_emptyZones_4 post r g act gn on a1 a2 a3 a4 a5 a6 a7 a8 n (nI (zs_cnt (zs_ezp a5) i)) (nI i)) (fun _ _ => True) 6 0 () (by omega) trivial
    (fun n _ _ => pk_le 6 6 (fun _ => H) (fun z => absurd z (by omega)))
    (fun n i _ hi _ hw => by
      refine pk_le 6 i (fun z => absurd z (by omega)) (fun _ => ⟨pk_in i 6 hi, ?_⟩)
      rw [nI_clamp (show i < 2 ^ 31 by omega)]
      exact br_c (fun e => nm_r (e' := nI (zs_cnt (zs_ezp a5) (i + 1))) (by rw [zs_cnt_t (zs_ezp_t e), nI_succ]) (nm_r (nI_1 i) (hw () trivial)))
        (fun e => nm_r (e' := nI (zs_cnt (zs_ezp a5) (i + 1))) (by rw [zs_cnt_f (zs_ezp_f e)]; exact Int32.add_zero _) (nm_r (nI_1 i) (hw () trivial))))
theorem zs_mr34 (h : 0 < zs_cnt (zs_ezp a5) 6) (H : pS (r, g, act, gn, on, a1, a2, a3, a4, a5, a6, a7, a8)) : ∃ n, wX_makeRoom_34 pS n 0 r g act gn on a1 a2 a3 a4 a5 a6 a7 a8 :=
  ⟨1, pk_le 6 0 (fun z => absurd z (by omega)) (fun _ => zs_po (fun x => zs_ez (br_t (nI_lt h (Nat.lt_of_le_of_lt (zs_cnt_le _ _) (by omega))) H)))⟩
theorem zs_mrA {za fz : Nat} (hz : za < 6) (hf : a4 za = nI fz) (h : fz + 7 ≤ 12) (H : pS (r, g, nI za, gn, on, a1, a2, a3, a4, a5, a6, a7, a8)) : wpX_makeRoom pS (r, g, nI za, gn, on, a1, a2, a3, a4, a5, a6, a7, a8) := by
  refine br_f (zs_ne1 (show za < 2 ^ 31 by omega)) ⟨pk_in za 6 hz, ?_⟩
  rw [nI_clamp (show za < 2 ^ 31 by omega), hf]
  exact pk_lt 12 (fz + 6 + 1) (fun z => absurd z (by omega)) (fun _ => H) rfl (by rw [← nI_1, ← nI_add]; rfl)
theorem zs_mrB {z : Nat} (ha : act = -1 ∨ ∃ za fz, za < 6 ∧ act = nI za ∧ a4 za = nI fz ∧ fz ≤ 12 ∧ 5 < fz) (hz : z < 6) (h1 : a5 z = -1) (h2 : ∀ i, i < z → ¬ a5 i = -1)
    (h : 0 < zs_cnt (zs_ezp (upd a5 z (on + 1))) 6) (H : pS (r, g, nI z, gn, on + 1, a1, a2, a3, upd a4 z 0, upd a5 z (on + 1), a6, a7, a8)) : wpX_makeRoom pS (r, g, act, gn, on, a1, a2, a3, a4, a5, a6, a7, a8) := by
  have M : wX_makeRoom_28 pS r g act gn on a1 a2 a3 a4 a5 a6 a7 a8 := zs_oz hz h1 h2 (zs_mr34 h H)
  rcases ha with e | ⟨za, fz, hza, e, hf, hf1, hf2⟩
  · exact br_t e M
  · subst e
    refine br_f (zs_ne1 (show za < 2 ^ 31 by omega)) ⟨pk_in za 6 hza, ?_⟩
    rw [nI_clamp (show za < 2 ^ 31 by omega), hf]
    exact pk_lt 12 (fz + 6 + 1) (fun _ => M) (fun z => absurd z (by omega)) rfl (by rw [← nI_1, ← nI_add]; rfl)
theorem zs_ap {B G F : Nat → Nat} {za b gg : Nat} {v : Int32} (hz : za < 6) (hf : F za < 12)
    (H : pR (nI (12 * za + F za)) (r, g, nI za, nI gg, on, (fun i => nI (zs_up B (12 * za + F za) b i)), upd a2 (12 * za + F za) v, (fun i => nI (zs_up G (12 * za + F za) gg i)), (fun i => nI (zs_up F za (F za + 1) i)), a5, a6, a7, a8)) :
    wpX_append pR (r, g, nI za, nI gg, on, (fun i => nI (B i)), a2, (fun i => nI (G i)), (fun i => nI (F i)), a5, a6, a7, a8) (nI b) v := by
  have c1 := nI_clamp (show za < 2 ^ 31 by omega)
  have c2 : (nI (12 * za + F za)).toNatClampNeg = 12 * za + F za := nI_clamp (by omega)
  refine And.intro (pk_in za 6 hz) (nm_r (e' := nI (12 * za + F za)) ?_ ⟨pk_in (12 * za + F za) 72 (by omega), nm_r (e' := fun i => nI (zs_up B (12 * za + F za) b i)) ?_ ⟨pk_in (12 * za + F za) 72 (by omega), nm_r (e' := upd a2 (12 * za + F za) v) ?_ ⟨pk_in (12 * za + F za) 72 (by omega), nm_r (e' := fun i => nI (zs_up G (12 * za + F za) gg i)) ?_ ⟨pk_in za 6 hz, pk_in za 6 hz, nm_r (e' := fun i => nI (zs_up F za (F za + 1) i)) ?_ H⟩⟩⟩⟩)
  · rw [c1]
    show nI 12 * nI za + nI (F za) = _
    rw [pk_mul, nI_add]
  · rw [c2]
    exact zs_upf B _ b
  · rw [c2]
  · rw [c2]
    exact zs_upf G _ gg
  · rw [c1]
    show upd (fun i => nI (F i)) za (nI (F za) + 1) = _
    rw [nI_1]
    exact zs_upf F _ _
theorem zs_drop (H : ∀ d : Nat → Int32, (∀ b, b < 16 → d b = 0) → pS (r, g, act, gn, on, a1, a2, a3, a4, a5, a6, a7, d)) : wpX_dropCache pS (r, g, act, gn, on, a1, a2, a3, a4, a5, a6, a7, a8) :=
  pk_loop (σ := Nat → Int32) (fun n i s => wX_dropCache_2 pS r g act gn on n (nI i) a1 a2 a3 a4 a5 a6 a7 s) (fun i s => ∀ b, b < i → s b = 0) 16 0 a8 (by omega) (fun b hb => absurd hb (by omega))
    (fun n s h => pk_le 16 16 (fun _ => H s h) (fun z => absurd z (by omega)))
    (fun n i s hi h hw => pk_le 16 i (fun z => absurd z (by omega)) (fun _ => ⟨pk_in i 16 hi, nm_e (nm_r (nI_1 i) (hw _ (zs_put (nI_clamp (by omega)) h)))⟩))
theorem zs_fall {T : Nat → Nat} (H : ∀ (T' : Nat → Nat) (d : Nat → Int32), (∀ b, b < 16 → T' b = 0) → (∀ b, b < 16 → d b = 0) → pS (0, 0, -1, gn, on, a1, a2, a3, a4, a5, (fun b => zs_m (T' b)), a7, d)) :
    wpX_fall pS (r, g, act, gn, on, a1, a2, a3, a4, a5, (fun b => zs_m (T b)), a7, a8) :=
  zs_drop (fun d hd => pk_loop (σ := Nat → Nat) (fun n i s => wX_fall_6 pS r g act gn on n (nI i) a1 a2 a3 a4 a5 (fun b => zs_m (s b)) a7 d) (fun i s => ∀ b, b < i → s b = 0) 16 0 T (by omega) (fun b hb => absurd hb (by omega))
    (fun n s h => pk_le 16 16 (fun _ => H s d h hd) (fun z => absurd z (by omega)))
    (fun n i s hi h hw => pk_le 16 i (fun z => absurd z (by omega)) (fun _ => ⟨pk_in i 16 hi, nm_r (e' := fun b => zs_m (zs_up s i 0 b)) (by rw [nI_clamp (show i < 2 ^ 31 by omega)]; exact zs_umf s i 0) (nm_r (nI_1 i) (hw (zs_up s i 0) (zs_putN h)))⟩)))
theorem zs_init {mc ms : Nat} (hm : 8 ≤ mc) (hs : 276 ≤ ms)
    (H : ∀ (O : Nat → Int32) (T : Nat → Nat), (∀ z, z < 6 → O z = -1) → (∀ b, b < 16 → T b = 0) → pS (1, 0, -1, 0, 0, (fun _ => 0), (fun _ => 0), (fun _ => 0), (fun _ => 0), O, (fun b => zs_m (T b)), (fun _ => 0), (fun _ => 0))) :
    wpX_init pS mc ms (0, 0, 0, 0, 0) := by
  unfold wpX_init
  refine ⟨by omega, by omega, by omega, by omega, by omega, by omega, by omega, by omega, by omega, by omega, by omega, by omega, by omega, by omega, by omega, by omega, ?_⟩
  refine pk_loop (σ := Nat → Int32) (fun n i s => wX_init_75 pS mc ms 8 276 1 0 0 0 0 n (nI i) (fun _ => 0) (fun _ => 0) (fun _ => 0) (fun _ => 0) s (fun _ => 0) (fun _ => 0) (fun _ => 0)) (fun i s => ∀ b, b < i → s b = -1) 6 0 (fun _ => 0) (by omega) (fun b hb => absurd hb (by omega)) ?_ ?_
  · intro n O hO
    refine pk_le 6 6 (fun _ => ?_) (fun z => absurd z (by omega))
    exact pk_loop (σ := Nat → Nat) (fun n i s => wX_init_96 pS mc ms 8 276 1 0 0 0 0 n (nI i) (fun _ => 0) (fun _ => 0) (fun _ => 0) (fun _ => 0) O (fun b => zs_m (s b)) (fun _ => 0) (fun _ => 0)) (fun i s => ∀ b, b < i → s b = 0) 16 0 (fun _ => 1) (by omega) (fun b hb => absurd hb (by omega))
      (fun n s h => pk_le 16 16 (fun _ => H O s hO h) (fun z => absurd z (by omega)))
      (fun n i s hi h hw => pk_le 16 i (fun z => absurd z (by omega)) (fun _ => ⟨pk_in i 16 hi, nm_r (e' := fun b => zs_m (zs_up s i 0 b)) (by rw [nI_clamp (show i < 2 ^ 31 by omega)]; exact zs_umf s i 0) (nm_r (nI_1 i) (hw (zs_up s i 0) (zs_putN h)))⟩))
  · exact fun n i s hi h hw => pk_le 6 i (fun z => absurd z (by omega)) (fun _ => ⟨pk_in i 6 hi, nm_e (nm_r (nI_1 i) (hw _ (zs_put (nI_clamp (by omega)) h)))⟩)
end
end
section
/-! the running store's invariant, makeRoom and flush -/
def zs_f0 (fa : Nat) : Nat := if fa + 7 ≤ 12 then fa else 0
def zs_E (E fa : Nat) : Nat := if fa + 7 ≤ 12 then E else E - 1
def zs_R (act : Int32) (gn on : Nat) (B : Nat → Nat) (V : Nat → Int32) (G F : Nat → Nat) (O : Nat → Int32) (T : Nat → Nat) (E fa : Nat) (S : Nat → Int32) : Prop :=
  zs_L B G F T gn ∧ (∀ z, z < 6 → O z = -1 → F z = 0) ∧ on ≤ gn ∧
  ((act = -1 ∧ fa = 12) ∨ ∃ za, za < 6 ∧ act = nI za ∧ ¬ O za = -1 ∧ F za = fa) ∧
  E ≤ zs_cnt (zs_ezp O) 6 ∧ (∀ b, b < 16 → zs_st V T b = S b)
theorem zs_F0 {F : Nat → Nat} {z : Nat} (h : F z = 0) : upd (fun i => nI (F i)) z 0 = fun i => nI (F i) := by
  funext j
  show (if j = z then 0 else nI (F j)) = nI (F j)
  by_cases e : j = z
  · rw [if_pos e, e, h]; rfl
  · rw [if_neg e]
theorem zs_mr {pS : St2 → Prop} {r g act : Int32} {gn on E fa : Nat} {B : Nat → Nat} {V : Nat → Int32} {G F : Nat → Nat} {O : Nat → Int32} {T : Nat → Nat} {S C d : Nat → Int32}
    (hR : zs_R act gn on B V G F O T E fa S) (hg : gn < 1000) (hroom : fa + 7 ≤ 12 ∨ 2 ≤ E)
    (H : ∀ (za on' : Nat) (O' : Nat → Int32), za < 6 → ¬ O' za = -1 → on' ≤ gn + 1 → (∀ z, z < 6 → O' z = -1 → F z = 0) → F za = zs_f0 fa → zs_E E fa ≤ zs_cnt (zs_ezp O') 6 →
      pS (r, g, nI za, nI gn, nI on', (fun i => nI (B i)), V, (fun i => nI (G i)), (fun i => nI (F i)), O', (fun b => zs_m (T b)), C, d)) :
    wpX_makeRoom pS (r, g, act, nI gn, nI on, (fun i => nI (B i)), V, (fun i => nI (G i)), (fun i => nI (F i)), O, (fun b => zs_m (T b)), C, d) := by
  obtain ⟨hL, hO, hon, hact, hE, hS⟩ := hR
  by_cases hfa : fa + 7 ≤ 12
  · rcases hact with ⟨e, e2⟩ | ⟨za, hza, e, e2, e3⟩
    · exact absurd hfa (by omega)
    · subst e
      refine zs_mrA (fz := fa) hza (by show nI (F za) = nI fa; rw [e3]) hfa (H za on O hza e2 (by omega) hO ?_ ?_)
      · unfold zs_f0; rw [if_pos hfa]; exact e3
      · unfold zs_E; rw [if_pos hfa]; exact hE
  · have hE2 : 2 ≤ E := by omega
    obtain ⟨z0, hz0, hz1⟩ := zs_cnt_pos (p := zs_ezp O) (n := 6) (by omega)
    obtain ⟨z, ⟨hz, hOz⟩, hmin⟩ := pk_least (fun z => z < 6 ∧ O z = -1) ⟨z0, hz0, zs_ezp_of hz1⟩
    have hne : ¬ nI (on + 1) = -1 := zs_ne1 (by omega)
    have hcnt : zs_cnt (zs_ezp O) 6 = zs_cnt (zs_ezp (upd O z (nI (on + 1)))) 6 + 1 := by
      refine zs_cnt_del (k := z) hz (zs_ezp_t hOz) (zs_ezp_f (by rw [pk_us]; exact hne)) (fun i hi hi2 => ?_)
      unfold zs_ezp
      rw [pk_un hi2]
    have P := H z (on + 1) (upd O z (nI (on + 1))) hz (by rw [pk_us]; exact hne) (by omega) (fun z' hz' h' => by
      by_cases e : z' = z
      · rw [e, pk_us] at h'
        exact absurd h' hne
      · rw [pk_un e] at h'
        exact hO z' hz' h') (by unfold zs_f0; rw [if_neg hfa]; exact hO z hz hOz) (by unfold zs_E; rw [if_neg hfa]; omega)
    refine zs_mrB (z := z) ?_ hz hOz (fun i hi h => hmin i hi ⟨by omega, h⟩) ?_ ?_
    · rcases hact with ⟨e, e2⟩ | ⟨za, hza, e, e2, e3⟩
      · exact Or.inl e
      · refine Or.inr ⟨za, F za, hza, e, rfl, hL.1 za hza, by omega⟩
    · rw [nI_1]; omega
    · rw [nI_1, zs_F0 (hO z hz hOz)]
      exact P
/-- the flush's loop: what holds before block x, w records written -/
def zs_FI (p za gn f0 : Nat) (T0 : Nat → Nat) (S C : Nat → Int32) (D : Nat → Bool) (O : Nat → Int32) (x w : Nat) (B : Nat → Nat) (V : Nat → Int32) (G F T : Nat → Nat) : Prop :=
  zs_L B G F T0 gn ∧ F za = f0 + w ∧ w ≤ zs_cnt D x ∧ (1 < p → w = zs_cnt D x) ∧
  (∀ a, a < 72 → zs_live F a → G a = gn → B a < x ∧ a / 12 = za ∧ D (B a) = true) ∧
  (∀ b, b < 16 → zs_st V T0 b = S b) ∧ (∀ z, z < 6 → O z = -1 → F z = 0) ∧
  (p ≠ 3 → ∀ b, b < 16 → T b = T0 b) ∧
  (p = 3 → ∀ b, b < 16 → (b < x → D b = true → ∃ t, T b = t + 1 ∧ t < 72 ∧ zs_live F t ∧ B t = b ∧ G t = gn ∧ V t = C b) ∧ (¬ (b < x ∧ D b = true) → T b = T0 b))
theorem zs_FI_skip {p za gn f0 : Nat} {T0 : Nat → Nat} {S C : Nat → Int32} {D : Nat → Bool} {O : Nat → Int32} {x w : Nat} {B : Nat → Nat} {V : Nat → Int32} {G F T : Nat → Nat}
    (h : zs_FI p za gn f0 T0 S C D O x w B V G F T) (hx : D x = false ∨ p ≤ 1) : zs_FI p za gn f0 T0 S C D O (x + 1) w B V G F T := by
  obtain ⟨h1, h2, h3, h4, h5, h6, h7, h8, h9⟩ := h
  refine ⟨h1, h2, Nat.le_trans h3 (zs_cnt_mono_n D x), ?_, ?_, h6, h7, h8, ?_⟩
  · intro hp
    rcases hx with e | e
    · rw [zs_cnt_f e]; exact h4 hp
    · omega
  · intro a ha hl eg
    obtain ⟨n1, n2, n3⟩ := h5 a ha hl eg
    exact ⟨by omega, n2, n3⟩
  · intro hp b hb
    have e : D x = false := by
      rcases hx with e | e
      · exact e
      · omega
    refine ⟨fun hbx hd => ?_, fun hn => (h9 hp b hb).2 (fun z => hn ⟨by omega, z.2⟩)⟩
    have : b ≠ x := fun z => by
      rw [z, e] at hd
      exact absurd hd (by decide)
    exact (h9 hp b hb).1 (by omega) hd
theorem zs_FI_put {p za gn f0 : Nat} {T0 : Nat → Nat} {S C : Nat → Int32} {D : Nat → Bool} {O : Nat → Int32} {x w : Nat} {B : Nat → Nat} {V : Nat → Int32} {G F T T' : Nat → Nat}
    (h : zs_FI p za gn f0 T0 S C D O x w B V G F T) (hz : za < 6) (hf : F za < 12) (ho : ¬ O za = -1) (hx : x < 16) (hd : D x = true)
    (hT3 : p = 3 → T' = zs_up T x (12 * za + F za + 1)) (hTn : p ≠ 3 → T' = T) :
    zs_FI p za gn f0 T0 S C D O (x + 1) (w + 1) (zs_up B (12 * za + F za) x) (upd V (12 * za + F za) (C x)) (zs_up G (12 * za + F za) gn) (zs_up F za (F za + 1)) T' := by
  obtain ⟨h1, h2, h3, h4, h5, h6, h7, h8, h9⟩ := h
  have lv := zs_live_up (F := F) (za := za) hf
  have nx : ∀ a, zs_live F a → a ≠ 12 * za + F za := fun a => zs_live_nx hf
  refine ⟨zs_L_app h1 hz hf hx (fun a ha hl eg => ⟨(h5 a ha hl eg).1, (h5 a ha hl eg).2.1⟩), ?_, ?_, ?_, zs_grp_app hf hd h5, ?_, ?_, ?_, ?_⟩
  · rw [zs_us]; omega
  · rw [zs_cnt_t hd]; omega
  · intro hp
    rw [zs_cnt_t hd, h4 hp]
  · intro b hb
    rw [zs_st_upd (fun t ht => nx t (h1.2.2.2.2.2 b t hb ht).2.1)]
    exact h6 b hb
  · intro z hz' hz''
    have : z ≠ za := fun e => ho (e ▸ hz'')
    rw [zs_un this]
    exact h7 z hz' hz''
  · intro hp b hb
    rw [hTn hp]
    exact h8 hp b hb
  · intro hp b hb
    rw [hT3 hp]
    by_cases e : b = x
    · subst e
      refine ⟨fun _ _ => ⟨12 * za + F za, zs_us, by omega, (lv _).mpr (Or.inr rfl), zs_us, zs_us, pk_us⟩, fun hn => absurd ⟨by omega, hd⟩ hn⟩
    · refine ⟨fun hbx hbd => ?_, fun hn => ?_⟩
      · obtain ⟨t, t1, t2, t3, t4, t5, t6⟩ := (h9 hp b hb).1 (by omega) hbd
        refine ⟨t, by rw [zs_un e]; exact t1, t2, (lv t).mpr (Or.inl t3), by rw [zs_un (nx t t3)]; exact t4, by rw [zs_un (nx t t3)]; exact t5, by rw [pk_un (nx t t3)]; exact t6⟩
      · rw [zs_un e]
        exact (h9 hp b hb).2 (fun z => hn ⟨by omega, z.2⟩)
theorem zs_fl {pS : St2 → Prop} {r g : Int32} {p za gn f0 m on : Nat} {T0 : Nat → Nat} {S C d O : Nat → Int32} (hp1 : 1 ≤ p) (hp3 : p ≤ 3) (hz : za < 6) (ho : ¬ O za = -1) (hm : zs_cnt (zs_D d) 16 = m) (hroom : f0 + m + 1 ≤ 12)
    (H3 : p = 3 → ∀ (B : Nat → Nat) (V : Nat → Int32) (G F T : Nat → Nat) (d' : Nat → Int32), zs_L B G F T gn → F za = f0 + m + 1 → (∀ z, z < 6 → O z = -1 → F z = 0) → (∀ b, b < 16 → zs_st V T b = if zs_D d b = true then C b else S b) → (∀ b, b < 16 → d' b = 0) →
      pS (r, g, nI za, nI gn, nI on, (fun i => nI (B i)), V, (fun i => nI (G i)), (fun i => nI (F i)), O, (fun b => zs_m (T b)), C, d'))
    (Hn : p ≠ 3 → ∀ (B : Nat → Nat) (V : Nat → Int32) (G F T : Nat → Nat), zs_L B G F T gn → (∀ b, b < 16 → zs_st V T b = S b) →
      pS (r, g, nI za, nI gn, nI on, (fun i => nI (B i)), V, (fun i => nI (G i)), (fun i => nI (F i)), O, (fun b => zs_m (T b)), C, d)) :
    ∀ (n x w : Nat) (B : Nat → Nat) (V : Nat → Int32) (G F T : Nat → Nat), x ≤ 16 → 16 - x < n → zs_FI p za gn f0 T0 S C (zs_D d) O x w B V G F T →
      wX_flush_33 pS (nI p) (nI m) n (nI w) (nI x) r g (nI za) (nI gn) (nI on) (fun i => nI (B i)) V (fun i => nI (G i)) (fun i => nI (F i)) O (fun b => zs_m (T b)) C d := by
  intro n
  induction n with
  | zero => exact fun x w B V G F T _ h => absurd h (by omega)
  | succ n ih =>
    intro x w B V G F T hx hn h
    have hw : w ≤ m := by
      have e1 := h.2.2.1
      have e2 := zs_cnt_upto (zs_D d) hx
      omega
    have hf12 : F za = f0 + w := h.2.1
    by_cases ex : x = 16
    · subst ex
      refine pk_le 16 16 (fun _ => ?_) (fun z => absurd z (by omega))
      refine pk_eq p 3 (fun e3 => ?_) (fun e3 => ?_)
      · have hwm : w = m := by
          rw [← hm]
          exact h.2.2.2.1 (by omega)
        have hf : F za < 12 := by omega
        obtain ⟨h1, h2, h3, h4, h5, h6, h7, h8, h9⟩ := h
        refine zs_ap (b := 16) hz hf (zs_drop (fun d' hd' => H3 e3 _ _ _ _ T d' ?_ ?_ ?_ ?_ hd'))
        · refine zs_L_mark (D := zs_D d) h1 hz hf h5 (fun b hb hd => ?_) (fun b hb hd => (h9 e3 b hb).2 (fun z => by rw [hd] at z; exact absurd z.2 (by decide)))
          obtain ⟨t, t1, t2, t3, t4, t5, t6⟩ := (h9 e3 b hb).1 hb hd
          exact ⟨t, t1, t2, t3, t4, t5⟩
        · rw [zs_us]; omega
        · intro z hz' hz''
          have : z ≠ za := fun e => ho (e ▸ hz'')
          rw [zs_un this]
          exact h7 z hz' hz''
        · intro b hb
          cases hd : zs_D d b with
          | true =>
            rw [if_pos rfl]
            obtain ⟨t, t1, t2, t3, t4, t5, t6⟩ := (h9 e3 b hb).1 hb hd
            rw [zs_st_s t1, pk_un (zs_live_nx hf t3)]
            exact t6
          | false =>
            rw [if_neg (by decide)]
            have eT : T b = T0 b := (h9 e3 b hb).2 (fun z => by rw [hd] at z; exact absurd z.2 (by decide))
            rw [zs_st_upd (fun t ht => zs_live_nx hf (h1.2.2.2.2.2 b t hb (eT.symm.trans ht)).2.1), ← h6 b hb]
            unfold zs_st
            rw [eT]
      · obtain ⟨h1, h2, h3, h4, h5, h6, h7, h8, h9⟩ := h
        refine Hn e3 B V G F T (zs_L_tab h1 (h8 e3)) (fun b hb => ?_)
        rw [← h6 b hb]
        unfold zs_st
        rw [h8 e3 b hb]
    · have hx' : x < 16 := by omega
      refine pk_le 16 x (fun z => absurd z (by omega)) (fun _ => ⟨pk_in x 16 hx', ?_⟩)
      rw [nI_clamp (show x < 2 ^ 31 by omega)]
      refine br_c (fun e => nm_r (nI_1 x) (ih (x + 1) w B V G F T (by omega) (by omega) (zs_FI_skip h (Or.inl (zs_D_f e))))) (fun e => ?_)
      have hd : zs_D d x = true := zs_D_t e
      have hw2 : w < m := by
        have e1 := h.2.2.1
        have e2 := zs_cnt_upto (zs_D d) (show x + 1 ≤ 16 by omega)
        rw [zs_cnt_t hd] at e2
        omega
      have hf : F za < 12 := by omega
      have K : wX_flush_62 pS (wX_flush_33 pS (nI p) (nI m) n) (nI p) (nI m) (nI w) (nI x) r g (nI za) (nI gn) (nI on) (fun i => nI (B i)) V (fun i => nI (G i)) (fun i => nI (F i)) O (fun b => zs_m (T b)) C d := by
        unfold wX_flush_62
        rw [nI_clamp (show x < 2 ^ 31 by omega)]
        refine ⟨pk_in x 16 hx', zs_ap hz hf (nm_r (nI_1 w) (pk_eq p 3 (fun e3 => ⟨pk_in x 16 hx', ?_⟩) (fun e3 => nm_r (nI_1 x) ?_)))⟩
        · exact nm_r (e' := fun b => zs_m (zs_up T x (12 * za + F za + 1) b)) (zs_umf T x (12 * za + F za + 1)) (nm_r (nI_1 x) (ih (x + 1) (w + 1) _ _ _ _ _ (by omega) (by omega) (zs_FI_put h hz hf ho hx' hd (fun _ => rfl) (fun z => absurd e3 z))))
        · exact ih (x + 1) (w + 1) _ _ _ _ T (by omega) (by omega) (zs_FI_put h hz hf ho hx' hd (fun z => absurd z e3) (fun _ => rfl))
      exact pk_lt 1 p (fun _ => K) (fun hp => pk_le m (2 * w) (fun _ => nm_r (nI_1 x) (ih (x + 1) w B V G F T (by omega) (by omega) (zs_FI_skip h (Or.inr hp)))) (fun _ => K) rfl (pk_mul 2 w))
theorem zs_FI_0 {act : Int32} {p za gn on E fa : Nat} {B : Nat → Nat} {V : Nat → Int32} {G F : Nat → Nat} {O O' : Nat → Int32} {T : Nat → Nat} {S C : Nat → Int32} {D : Nat → Bool}
    (hR : zs_R act gn on B V G F O T E fa S) (hO : ∀ z, z < 6 → O' z = -1 → F z = 0) (hF : F za = zs_f0 fa) : zs_FI p za (gn + 1) (zs_f0 fa) T S C D O' 0 0 B V G F T := by
  obtain ⟨hL, h2, h3, h4, h5, h6⟩ := hR
  refine ⟨zs_L_grow hL (by omega), by omega, Nat.zero_le _, fun _ => rfl, ?_, h6, hO, fun _ _ _ => rfl, ?_⟩
  · intro a ha hl eg
    have := (hL.2.1 a ha hl).2
    omega
  · intro _ b _
    exact ⟨fun z => absurd z (by omega), fun _ => rfl⟩
theorem zs_f0_le (fa : Nat) : zs_f0 fa ≤ 5 := by
  unfold zs_f0
  by_cases h : fa + 7 ≤ 12
  · rw [if_pos h]; omega
  · rw [if_neg h]; omega
/-- a flush that comes to its end -/
theorem zs_flush3 {pS : St2 → Prop} {r g act : Int32} {gn on E fa m : Nat} {B : Nat → Nat} {V : Nat → Int32} {G F : Nat → Nat} {O : Nat → Int32} {T : Nat → Nat} {S C d : Nat → Int32}
    (hR : zs_R act gn on B V G F O T E fa S) (hg : gn < 1000) (hroom : fa + 7 ≤ 12 ∨ 2 ≤ E) (hm : zs_cnt (zs_D d) 16 = m) (hm1 : 1 ≤ m) (hm6 : m ≤ 6)
    (H : ∀ (act' : Int32) (on' : Nat) (B' : Nat → Nat) (V' : Nat → Int32) (G' F' : Nat → Nat) (O' : Nat → Int32) (T' : Nat → Nat) (d' : Nat → Int32), zs_R act' (gn + 1) on' B' V' G' F' O' T' (zs_E E fa) (zs_f0 fa + m + 1) (fun b => if zs_D d b = true then C b else S b) → (∀ b, b < 16 → d' b = 0) →
      pS (r, g, act', nI (gn + 1), nI on', (fun i => nI (B' i)), V', (fun i => nI (G' i)), (fun i => nI (F' i)), O', (fun b => zs_m (T' b)), C, d')) :
    wpX_flush pS (r, g, act, nI gn, nI on, (fun i => nI (B i)), V, (fun i => nI (G i)), (fun i => nI (F i)), O, (fun b => zs_m (T b)), C, d) 3 := by
  unfold wpX_flush
  dsimp only
  refine zs_dc ?_
  rw [hm]
  refine br_f (nI_ne0 hm1 (by omega)) (br_f (by decide) ?_)
  refine zs_mr hR hg hroom (fun za on' O' hza ho hon hO hF hE => ?_)
  refine nm_r (nI_1 gn) ?_
  have f5 := zs_f0_le fa
  refine ⟨17, zs_fl (p := 3) (T0 := T) (S := S) (f0 := zs_f0 fa) (by omega) (by omega) hza ho hm (by omega) (fun _ B' V' G' F' T' d' hL hFz hO2 hS hd => ?_) (fun z => absurd rfl z) 17 0 0 B V G F T (by omega) (by omega) (zs_FI_0 hR hO hF)⟩
  exact H (nI za) on' B' V' G' F' O' T' d' ⟨hL, hO2, hon, Or.inr ⟨za, hza, rfl, ho, hFz⟩, hE, hS⟩ hd
/-- a flush that the power may cut -/
theorem zs_flushP {pS : St2 → Prop} {r g act : Int32} {gn on E fa m p : Nat} {B : Nat → Nat} {V : Nat → Int32} {G F : Nat → Nat} {O : Nat → Int32} {T : Nat → Nat} {S C d : Nat → Int32}
    (hR : zs_R act gn on B V G F O T E fa S) (hg : gn < 1000) (hroom : fa + 7 ≤ 12 ∨ 2 ≤ E) (hm : zs_cnt (zs_D d) 16 = m) (hm6 : m ≤ 6) (hp : p ≤ 3)
    (H : ∀ (act' : Int32) (gn' on' : Nat) (B' : Nat → Nat) (V' : Nat → Int32) (G' F' : Nat → Nat) (O' : Nat → Int32) (T' : Nat → Nat) (d' : Nat → Int32), gn' ≤ gn + 1 → zs_L B' G' F' T' gn' → (∀ b, b < 16 → zs_st V' T' b = if p = 3 ∧ zs_D d b = true then C b else S b) →
      pS (r, g, act', nI gn', nI on', (fun i => nI (B' i)), V', (fun i => nI (G' i)), (fun i => nI (F' i)), O', (fun b => zs_m (T' b)), C, d')) :
    wpX_flush pS (r, g, act, nI gn, nI on, (fun i => nI (B i)), V, (fun i => nI (G i)), (fun i => nI (F i)), O, (fun b => zs_m (T b)), C, d) (nI p) := by
  unfold wpX_flush
  dsimp only
  refine zs_dc ?_
  rw [hm]
  refine pk_eq m 0 (fun hm0 => ?_) (fun hm0 => pk_eq p 0 (fun hp0 => ?_) (fun hp0 => ?_))
  · refine H act gn on B V G F O T d (by omega) hR.1 (fun b hb => ?_)
    rw [if_neg, hR.2.2.2.2.2 b hb]
    intro z
    have := zs_cnt_in hb z.2
    omega
  · refine H act gn on B V G F O T d (by omega) hR.1 (fun b hb => ?_)
    rw [if_neg (by omega), hR.2.2.2.2.2 b hb]
  · refine zs_mr hR hg hroom (fun za on' O' hza ho hon hO hF hE => ?_)
    refine nm_r (nI_1 gn) ?_
    have f5 := zs_f0_le fa
    refine ⟨17, zs_fl (p := p) (T0 := T) (S := S) (f0 := zs_f0 fa) (by omega) (by omega) hza ho hm (by omega) (fun e3 B' V' G' F' T' d' hL hFz hO2 hS hd => ?_) (fun e3 B' V' G' F' T' hL hS => ?_) 17 0 0 B V G F T (by omega) (by omega) (zs_FI_0 hR hO hF)⟩
    · refine H (nI za) (gn + 1) on' B' V' G' F' O' T' d' (by omega) hL (fun b hb => ?_)
      rw [hS b hb]
      cases hd : zs_D d b with
      | true => rw [if_pos rfl, if_pos ⟨e3, rfl⟩]
      | false => rw [if_neg (by decide), if_neg (fun z => absurd z.2 (by decide))]
    · refine H (nI za) (gn + 1) on' B' V' G' F' O' T' d (by omega) hL (fun b hb => ?_)
      rw [hS b hb, if_neg (fun z => e3 z.1)]
end
section
/-! write, fill, sync -/
theorem zs_R_S {act : Int32} {gn on E fa : Nat} {B : Nat → Nat} {V : Nat → Int32} {G F : Nat → Nat} {O : Nat → Int32} {T : Nat → Nat} {S S' : Nat → Int32}
    (h : zs_R act gn on B V G F O T E fa S) (e : ∀ b, b < 16 → S b = S' b) : zs_R act gn on B V G F O T E fa S' :=
  ⟨h.1, h.2.1, h.2.2.1, h.2.2.2.1, h.2.2.2.2.1, fun b hb => (h.2.2.2.2.2 b hb).trans (e b hb)⟩
theorem zs_ib {post : Int32 → Prop} {b : Nat} (hb : b < 16) (H : post 1) : wpX_isBlock post () (nI b) :=
  br_f (nI_pos (by omega)) (pk_le 16 b (fun z => absurd z (by omega)) (fun _ => H))
theorem zs_w52 {pR : Int32 → St2 → Prop} {r g act gn on v : Int32} {a1 a2 a3 a4 a5 a6 a7 a8 : Nat → Int32} {b : Nat} (hb : b < 16) (H : pR 0 (r, g, act, gn, on, a1, a2, a3, a4, a5, a6, upd a7 b v, upd a8 b 1)) :
    wX_write_52 pR (nI b) v r g act gn on a1 a2 a3 a4 a5 a6 a7 a8 := by
  unfold wX_write_52
  rw [nI_clamp (show b < 2 ^ 31 by omega)]
  exact ⟨pk_in b 16 hb, nm_e ⟨pk_in b 16 hb, nm_e H⟩⟩
theorem zs_D_upd {d : Nat → Int32} {b b' : Nat} : zs_D (upd d b 1) b' = true ↔ b' = b ∨ zs_D d b' = true := by
  by_cases e : b' = b
  · subst e
    exact ⟨fun _ => Or.inl rfl, fun _ => zs_D_t (by rw [pk_us]; decide)⟩
  · have : zs_D (upd d b 1) b' = zs_D d b' := by
      unfold zs_D
      rw [pk_un e]
    rw [this]
    exact ⟨fun h => Or.inr h, fun h => h.resolve_left e⟩
/-- zones at hand and places filled, flush by flush of six -/
def zs_sch (E fa : Nat) : Nat → Nat × Nat
  | 0 => (E, fa)
  | j + 1 => (zs_E (zs_sch E fa j).1 (zs_sch E fa j).2, zs_f0 (zs_sch E fa j).2 + 6 + 1)
/-- what holds behind k writes of a fill, j flushes among them -/
def zs_FK (f : Nat) (vl S0 : Nat → Int32) (gn0 E fa j k : Nat) (act : Int32) (gn on : Nat) (B : Nat → Nat) (V : Nat → Int32) (G F : Nat → Nat) (O : Nat → Int32) (T : Nat → Nat) (C d : Nat → Int32) : Prop :=
  gn = gn0 + j ∧ zs_R act gn on B V G F O T (zs_sch E fa j).1 (zs_sch E fa j).2 (fun b => if f ≤ b ∧ b < f + 6 * j then vl (b - f) else S0 b) ∧
  (∀ b, b < 16 → (zs_D d b = true ↔ f + 6 * j ≤ b ∧ b < f + k)) ∧
  (∀ b, b < 16 → f + 6 * j ≤ b → b < f + k → C b = vl (b - f))
theorem zs_FK_plain {f : Nat} {vl S0 : Nat → Int32} {gn0 E fa j k : Nat} {act : Int32} {gn on : Nat} {B : Nat → Nat} {V : Nat → Int32} {G F : Nat → Nat} {O : Nat → Int32} {T : Nat → Nat} {C d : Nat → Int32}
    (h : zs_FK f vl S0 gn0 E fa j k act gn on B V G F O T C d) (hk : 6 * j ≤ k) :
    zs_FK f vl S0 gn0 E fa j (k + 1) act gn on B V G F O T (upd C (f + k) (vl k)) (upd d (f + k) 1) := by
  obtain ⟨h1, h2, h3, h4⟩ := h
  refine ⟨h1, h2, fun b hb => ?_, fun b hb hb1 hb2 => ?_⟩
  · rw [zs_D_upd, h3 b hb]
    omega
  · by_cases e : b = f + k
    · rw [e, pk_us, show f + k - f = k by omega]
    · rw [pk_un e]
      exact h4 b hb hb1 (by omega)
theorem zs_FK_flush {f : Nat} {vl S0 : Nat → Int32} {gn0 E fa j k : Nat} {act act' : Int32} {gn on on' : Nat} {B B' : Nat → Nat} {V V' : Nat → Int32} {G F G' F' : Nat → Nat} {O O' : Nat → Int32} {T T' : Nat → Nat} {C d d' : Nat → Int32}
    (h : zs_FK f vl S0 gn0 E fa j k act gn on B V G F O T C d) (hk : k = 6 * j + 6)
    (hR : zs_R act' (gn + 1) on' B' V' G' F' O' T' (zs_E (zs_sch E fa j).1 (zs_sch E fa j).2) (zs_f0 (zs_sch E fa j).2 + 6 + 1) (fun b => if zs_D d b = true then C b else if f ≤ b ∧ b < f + 6 * j then vl (b - f) else S0 b))
    (hd : ∀ b, b < 16 → d' b = 0) :
    zs_FK f vl S0 gn0 E fa (j + 1) (k + 1) act' (gn + 1) on' B' V' G' F' O' T' (upd C (f + k) (vl k)) (upd d' (f + k) 1) := by
  obtain ⟨h1, h2, h3, h4⟩ := h
  refine ⟨by omega, zs_R_S hR (fun b hb => ?_), fun b hb => ?_, fun b hb hb1 hb2 => ?_⟩
  · cases e : zs_D d b with
    | true =>
      have e2 := (h3 b hb).mp e
      rw [if_pos rfl, h4 b hb e2.1 e2.2, if_pos (by omega)]
    | false =>
      have e2 : ¬ (f + 6 * j ≤ b ∧ b < f + k) := fun z => by
        rw [(h3 b hb).mpr z] at e
        exact absurd e (by decide)
      rw [if_neg (by decide)]
      by_cases e3 : f ≤ b ∧ b < f + 6 * j
      · rw [if_pos e3, if_pos (by omega)]
      · rw [if_neg e3, if_neg (by omega)]
  · rw [zs_D_upd]
    constructor
    · intro z
      rcases z with z | z
      · omega
      · exact absurd (hd b hb) (zs_D_of z)
    · intro z
      exact Or.inl (by omega)
  · rw [show b = f + k by omega, pk_us, show f + k - f = k by omega]
theorem zs_fill_l {pR : Int32 → St2 → Prop} {f N gn0 E fa : Nat} {v st : Int32} {S0 : Nat → Int32} (hN : f + N ≤ 16) (hg : gn0 + 2 < 1000)
    (hsch : ∀ j, j < 2 → (zs_sch E fa j).2 + 7 ≤ 12 ∨ 2 ≤ (zs_sch E fa j).1)
    (H : ∀ (act : Int32) (gn on : Nat) (B : Nat → Nat) (V : Nat → Int32) (G F : Nat → Nat) (O : Nat → Int32) (T : Nat → Nat) (C d : Nat → Int32), zs_FK f (fun i => v + nI i * st) S0 gn0 E fa ((N - 1) / 6) N act gn on B V G F O T C d →
      pR 0 (1, 0, act, nI gn, nI on, (fun i => nI (B i)), V, (fun i => nI (G i)), (fun i => nI (F i)), O, (fun b => zs_m (T b)), C, d)) :
    ∀ (n k : Nat) (act : Int32) (gn on : Nat) (B : Nat → Nat) (V : Nat → Int32) (G F : Nat → Nat) (O : Nat → Int32) (T : Nat → Nat) (C d : Nat → Int32), k ≤ N → N - k < n → zs_FK f (fun i => v + nI i * st) S0 gn0 E fa ((k - 1) / 6) k act gn on B V G F O T C d →
      wX_fill_48 pR (nI f) (nI N) v st n (nI k) 1 0 act (nI gn) (nI on) (fun i => nI (B i)) V (fun i => nI (G i)) (fun i => nI (F i)) O (fun b => zs_m (T b)) C d := by
  intro n
  induction n with
  | zero => exact fun k act gn on B V G F O T C d _ h => absurd h (by omega)
  | succ n ih =>
    intro k act gn on B V G F O T C d hk hn h
    by_cases ek : k = N
    · subst ek
      exact pk_le k k (fun _ => H act gn on B V G F O T C d h) (fun z => absurd z (by omega))
    · refine pk_le N k (fun z => absurd z (by omega)) (fun _ => ?_)
      rw [nI_add f k]
      have hb : f + k < 16 := by omega
      have hcnt : zs_cnt (zs_D d) 16 = k - 6 * ((k - 1) / 6) := by
        rw [zs_cnt_iv h.2.2.1 (by omega)]
        omega
      have hd0 : d (f + k) = 0 := by
        by_cases e : d (f + k) = 0
        · exact e
        · have := ((h.2.2.1 (f + k) hb).mp (zs_D_t e)).2
          omega
      refine br_f (by decide) (zs_ib hb (br_f (by decide) ⟨pk_in (f + k) 16 hb, ?_⟩))
      rw [nI_clamp (show f + k < 2 ^ 31 by omega)]
      refine br_t hd0 (zs_dc ?_)
      rw [hcnt]
      refine pk_eq (k - 6 * ((k - 1) / 6)) 6 (fun e => br_t rfl ?_) (fun e => ?_)
      · have ej : (k + 1 - 1) / 6 = (k - 1) / 6 + 1 := by omega
        refine zs_flush3 (m := 6) h.2.1 (by have := h.1; omega) (hsch _ (by omega)) (by omega) (by omega) (by omega) (fun act' on' B' V' G' F' O' T' d' hR' hd' => ?_)
        refine zs_w52 hb (nm_r (nI_1 k) (ih (k + 1) act' (gn + 1) on' B' V' G' F' O' T' _ _ (by omega) (by omega) ?_))
        rw [ej]
        exact zs_FK_flush h (by omega) hR' hd'
      · have ej : (k + 1 - 1) / 6 = (k - 1) / 6 := by omega
        refine zs_w52 hb (nm_r (nI_1 k) (ih (k + 1) act gn on B V G F O T _ _ (by omega) (by omega) ?_))
        rw [ej]
        exact zs_FK_plain h (by omega)
theorem zs_fill {pR : Int32 → St2 → Prop} {f N gn on E fa : Nat} {act v st : Int32} {B : Nat → Nat} {V : Nat → Int32} {G F : Nat → Nat} {O : Nat → Int32} {T : Nat → Nat} {S0 C d : Nat → Int32} (hN1 : 1 ≤ N) (hN : f + N ≤ 16) (hg : gn + 2 < 1000)
    (hsch : ∀ j, j < 2 → (zs_sch E fa j).2 + 7 ≤ 12 ∨ 2 ≤ (zs_sch E fa j).1) (hR : zs_R act gn on B V G F O T E fa S0) (hd : ∀ b, b < 16 → d b = 0)
    (H : ∀ (act : Int32) (gn' on : Nat) (B : Nat → Nat) (V : Nat → Int32) (G F : Nat → Nat) (O : Nat → Int32) (T : Nat → Nat) (C d : Nat → Int32), zs_FK f (fun i => v + nI i * st) S0 gn E fa ((N - 1) / 6) N act gn' on B V G F O T C d →
      pR 0 (1, 0, act, nI gn', nI on, (fun i => nI (B i)), V, (fun i => nI (G i)), (fun i => nI (F i)), O, (fun b => zs_m (T b)), C, d)) :
    wpX_fill pR (1, 0, act, nI gn, nI on, (fun i => nI (B i)), V, (fun i => nI (G i)), (fun i => nI (F i)), O, (fun b => zs_m (T b)), C, d) (nI f) (nI N) v st := by
  have hs : (16 : Int32) - nI N = nI (16 - N) := pk_sub (a := 16) (by omega)
  refine br_f (by decide) (pk_lt N 1 (fun z => absurd z (by omega)) (fun _ => pk_lt 16 N (fun z => absurd z (by omega)) (fun _ => br_f (nI_pos (by omega)) (pk_le f (16 - N) (fun _ => br_t rfl ?_) (fun z => absurd z (by omega)) rfl hs))))
  refine ⟨N + 1, zs_fill_l (S0 := S0) hN hg hsch H (N + 1) 0 act gn on B V G F O T C d (by omega) (by omega) ⟨rfl, zs_R_S hR (fun b hb => ?_), fun b hb => ?_, fun b hb h1 h2 => absurd h2 (by omega)⟩⟩
  · rw [if_neg (by omega)]
  · rw [zs_D_f (hd b hb)]
    exact ⟨fun z => absurd z (by decide), fun z => absurd z.1 (by omega)⟩
theorem zs_sync {pR : Int32 → St2 → Prop} {act : Int32} {gn on E fa m : Nat} {B : Nat → Nat} {V : Nat → Int32} {G F : Nat → Nat} {O : Nat → Int32} {T : Nat → Nat} {S C d : Nat → Int32}
    (hR : zs_R act gn on B V G F O T E fa S) (hg : gn < 1000) (hroom : fa + 7 ≤ 12 ∨ 2 ≤ E) (hm : zs_cnt (zs_D d) 16 = m) (hm1 : 1 ≤ m) (hm6 : m ≤ 6)
    (H : ∀ (act' : Int32) (on' : Nat) (B' : Nat → Nat) (V' : Nat → Int32) (G' F' : Nat → Nat) (O' : Nat → Int32) (T' : Nat → Nat) (d' : Nat → Int32), zs_R act' (gn + 1) on' B' V' G' F' O' T' (zs_E E fa) (zs_f0 fa + m + 1) (fun b => if zs_D d b = true then C b else S b) → (∀ b, b < 16 → d' b = 0) →
      pR (nI m) (1, 0, act', nI (gn + 1), nI on', (fun i => nI (B' i)), V', (fun i => nI (G' i)), (fun i => nI (F' i)), O', (fun b => zs_m (T' b)), C, d')) :
    wpX_sync pR (1, 0, act, nI gn, nI on, (fun i => nI (B i)), V, (fun i => nI (G i)), (fun i => nI (F i)), O, (fun b => zs_m (T b)), C, d) := by
  refine br_f (by decide) (br_t rfl (zs_dc ?_))
  rw [hm]
  exact zs_flush3 hR hg hroom hm hm1 hm6 H
end
section
/-! stored, read, pending, clean -/
theorem zs_case (n : Nat) : n = 0 ∨ ∃ t, n = t + 1 := by
  cases n with
  | zero => exact Or.inl rfl
  | succ t => exact Or.inr ⟨t, rfl⟩
def zs_pq (C d V : Nat → Int32) (T : Nat → Nat) : Nat → Bool := fun b => if d b = 0 then false else if C b = zs_st V T b then false else true
section
variable {post : Int32 → Prop} {pS : St2 → Prop} {pR : Int32 → St2 → Prop} {r g act gn on : Int32} {a1 V a3 a4 a5 C d : Nat → Int32} {T : Nat → Nat}
theorem zs_sto {b : Nat} (hb : b < 16) (hT : T b ≤ 72) (H : post (zs_st V T b)) : wpX_stored post (r, g, act, gn, on, a1, V, a3, a4, a5, (fun b => zs_m (T b)), C, d) (nI b) := by
  refine And.intro (pk_in b 16 hb) ?_
  rw [nI_clamp (show b < 2 ^ 31 by omega)]
  rcases zs_case (T b) with e | ⟨t, e⟩
  · rw [zs_st_0 e] at H
    exact br_t (show zs_m (T b) = -1 by rw [e]; rfl) H
  · rw [zs_st_s e] at H
    have em : zs_m (T b) = nI t := by rw [e]; rfl
    refine br_f (show ¬ zs_m (T b) = -1 by rw [em]; exact zs_ne1 (by omega)) ⟨pk_in b 16 hb, ?_, ?_⟩
    · show vp_in (zs_m (T b)) 72
      rw [em]
      exact pk_in t 72 (by omega)
    · show post (V (zs_m (T b)).toNatClampNeg)
      rw [em, nI_clamp (show t < 2 ^ 31 by omega)]
      exact H
theorem zs_cur {b : Nat} (hb : b < 16) (hT : T b ≤ 72) (H : post (if zs_D d b = true then C b else zs_st V T b)) : wpX_current post (r, g, act, gn, on, a1, V, a3, a4, a5, (fun b => zs_m (T b)), C, d) (nI b) := by
  refine And.intro (pk_in b 16 hb) ?_
  rw [nI_clamp (show b < 2 ^ 31 by omega)]
  refine br_c (fun e => zs_sto hb hT ?_) (fun e => ⟨pk_in b 16 hb, ?_⟩)
  · rw [zs_D_f e, if_neg (by decide)] at H
    exact H
  · rw [zs_D_t e, if_pos rfl] at H
    exact H
theorem zs_rd {b : Nat} (hb : b < 16) (hT : T b ≤ 72) (H : post (if zs_D d b = true then C b else zs_st V T b)) : wpX_read post (1, g, act, gn, on, a1, V, a3, a4, a5, (fun b => zs_m (T b)), C, d) (nI b) :=
  br_f (by decide) (zs_ib hb (br_f (by decide) (zs_cur hb hT H)))
theorem zs_pd (hT : ∀ b, b < 16 → T b ≤ 72) (H : post (nI (zs_cnt (zs_pq C d V T) 16))) : wpX_pending post (1, g, act, gn, on, a1, V, a3, a4, a5, (fun b => zs_m (T b)), C, d) := by
  refine br_f (by decide) ?_
  refine pk_loop (σ := Unit) (fun n i _ => wX_pending_13 post 1 g act gn on a1 V a3 a4 a5 (fun b => zs_m (T b)) C d n (nI (zs_cnt (zs_pq C d V T) i)) (nI i)) (fun _ _ => True) 16 0 () (by omega) trivial
    (fun n _ _ => pk_le 16 16 (fun _ => H) (fun z => absurd z (by omega))) (fun n i _ hi _ hw => ?_)
  refine pk_le 16 i (fun z => absurd z (by omega)) (fun _ => ⟨pk_in i 16 hi, ?_⟩)
  rw [nI_clamp (show i < 2 ^ 31 by omega)]
  refine br_c (fun e => nm_r (e' := nI (zs_cnt (zs_pq C d V T) (i + 1))) ?_ (nm_r (nI_1 i) (hw () trivial))) (fun e => ⟨pk_in i 16 hi, zs_sto hi (hT i hi) (br_c (fun e2 => nm_r (e' := nI (zs_cnt (zs_pq C d V T) (i + 1))) ?_ (nm_r (nI_1 i) (hw () trivial))) (fun e2 => nm_r (e' := nI (zs_cnt (zs_pq C d V T) (i + 1))) ?_ (nm_r (nI_1 i) (hw () trivial))))⟩)
  · rw [zs_cnt_f (if_pos e : zs_pq C d V T i = false)]; exact Int32.add_zero _
  · rw [zs_cnt_f ((if_neg e).trans (if_pos e2) : zs_pq C d V T i = false)]; exact Int32.add_zero _
  · rw [zs_cnt_t ((if_neg e).trans (if_neg e2) : zs_pq C d V T i = true), nI_succ]
end
theorem zs_R_empty {act : Int32} {gn on E fa i : Nat} {B : Nat → Nat} {V : Nat → Int32} {G F : Nat → Nat} {O : Nat → Int32} {T : Nat → Nat} {S : Nat → Int32}
    (h : zs_R act gn on B V G F O T E fa S) (ha : ¬ nI i = act) (hl : zs_cnt (zs_lvp (fun b => zs_m (T b)) (nI i)) 16 = 0) : zs_R act gn on B V G (zs_up F i 0) (upd O i (-1)) T E fa S := by
  obtain ⟨h1, h2, h3, h4, h5, h6⟩ := h
  refine ⟨zs_L_empty h1 (fun b t hb ht e => ?_), fun z hz hz2 => ?_, h3, ?_, ?_, h6⟩
  · have t72 := (h1.2.2.2.2.2 b t hb ht).1
    have em : zs_m (T b) = nI t := by rw [ht]; rfl
    have e1 : ¬ zs_m (T b) = -1 := by rw [em]; exact zs_ne1 (by omega)
    have e2 : zs_m (T b) / 12 = nI i := by
      rw [em, ← e]
      exact pk_div (d := 12) (by omega) (by omega) (by omega)
    have e4 : zs_lvp (fun b => zs_m (T b)) (nI i) b = true := (if_neg e1).trans (if_pos e2)
    have := zs_cnt_in hb e4
    omega
  · by_cases e : z = i
    · rw [e, zs_us]
    · rw [pk_un e] at hz2
      rw [zs_un e]
      exact h2 z hz hz2
  · rcases h4 with e | ⟨za, hza, e, e2, e3⟩
    · exact Or.inl e
    · have en : za ≠ i := fun z => ha (by rw [e, z])
      exact Or.inr ⟨za, hza, e, by rw [pk_un en]; exact e2, by rw [zs_un en]; exact e3⟩
  · refine Nat.le_trans h5 (zs_cnt_mono (fun z hz hz2 => ?_))
    by_cases e : z = i
    · exact zs_ezp_t (by rw [e, pk_us])
    · exact zs_ezp_t (by rw [pk_un e]; exact zs_ezp_of hz2)
theorem zs_cl_l {pR : Int32 → St2 → Prop} {r g act : Int32} {gn on E fa : Nat} {B : Nat → Nat} {V : Nat → Int32} {G : Nat → Nat} {T : Nat → Nat} {S C d : Nat → Int32}
    (H : ∀ (F : Nat → Nat) (O : Nat → Int32), zs_R act gn on B V G F O T E fa S → pR 0 (r, g, act, nI gn, nI on, (fun i => nI (B i)), V, (fun i => nI (G i)), (fun i => nI (F i)), O, (fun b => zs_m (T b)), C, d)) :
    ∀ (n i : Nat) (F : Nat → Nat) (O : Nat → Int32), i ≤ 6 → 6 - i < n → zs_R act gn on B V G F O T E fa S →
      wX_clean_11 pR n (nI i) r g act (nI gn) (nI on) (fun i => nI (B i)) V (fun i => nI (G i)) (fun i => nI (F i)) O (fun b => zs_m (T b)) C d := by
  intro n
  induction n with
  | zero => exact fun i F O _ h => absurd h (by omega)
  | succ n ih =>
    intro i F O hi hn h
    by_cases ei : i = 6
    · subst ei
      exact pk_le 6 6 (fun _ => H F O h) (fun z => absurd z (by omega))
    · have hi' : i < 6 := by omega
      refine pk_le 6 i (fun z => absurd z (by omega)) (fun _ => br_c (fun e => nm_r (nI_1 i) (ih (i + 1) F O (by omega) (by omega) h)) (fun e => ⟨pk_in i 6 hi', ?_⟩))
      rw [nI_clamp (show i < 2 ^ 31 by omega)]
      refine br_c (fun e2 => nm_r (nI_1 i) (ih (i + 1) F O (by omega) (by omega) h)) (fun e2 => zs_lv ?_)
      have c16 := zs_cnt_le (zs_lvp (fun b => zs_m (T b)) (nI i)) 16
      refine pk_eq (zs_cnt (zs_lvp (fun b => zs_m (T b)) (nI i)) 16) 0 (fun e3 => ?_) (fun e3 => nm_r (nI_1 i) (ih (i + 1) F O (by omega) (by omega) h))
      refine And.intro (pk_in i 6 hi') (nm_r (e' := fun j => nI (zs_up F i 0 j)) ?_ ⟨pk_in i 6 hi', nm_r (e' := upd O i (-1)) ?_ (nm_r (nI_1 i) (ih (i + 1) (zs_up F i 0) (upd O i (-1)) (by omega) (by omega) (zs_R_empty h e e3)))⟩)
      · rw [nI_clamp (show i < 2 ^ 31 by omega)]
        exact zs_upf F i 0
      · rw [nI_clamp (show i < 2 ^ 31 by omega)]
theorem zs_cl {pR : Int32 → St2 → Prop} {g act : Int32} {gn on E fa : Nat} {B : Nat → Nat} {V : Nat → Int32} {G F : Nat → Nat} {O : Nat → Int32} {T : Nat → Nat} {S C d : Nat → Int32} (h : zs_R act gn on B V G F O T E fa S)
    (H : ∀ (F : Nat → Nat) (O : Nat → Int32), zs_R act gn on B V G F O T E fa S → pR 0 (1, g, act, nI gn, nI on, (fun i => nI (B i)), V, (fun i => nI (G i)), (fun i => nI (F i)), O, (fun b => zs_m (T b)), C, d)) :
    wpX_clean pR (1, g, act, nI gn, nI on, (fun i => nI (B i)), V, (fun i => nI (G i)), (fun i => nI (F i)), O, (fun b => zs_m (T b)), C, d) :=
  br_f (by decide) ⟨7, zs_cl_l H 7 0 F O (by omega) (by omega) h⟩
end
section
/-! counts, recover, mount, check -/
section
variable {post : Int32 → Prop} {pS : St2 → Prop} {pR : Int32 → St2 → Prop} {r g act gn on : Int32} {B G F T T0 : Nat → Nat} {V O C d : Nat → Int32} {a6 : Nat → Int32} {k : Nat}
theorem zs_i12 {i : Nat} (h : i < 2 ^ 31) : nI i / 12 = nI (i / 12) := pk_div (d := 12) h (by omega) (by omega)
theorem zs_m12 {i : Nat} (h : i < 2 ^ 31) : nI i - nI i / 12 * 12 = nI (i % 12) := pk_rem (d := 12) h (by omega) (by omega)
theorem zs_ct {x : Nat} (hF : ∀ z, z < 6 → F z ≤ 12) (hB : ∀ a, a < 72 → zs_live F a → B a ≤ 16 ∧ G a ≤ k) (hk : k < 2 ^ 31) (hx : x < 2 ^ 31) (H1 : zs_mk B G F x → post 1) (H0 : ¬ zs_mk B G F x → post 0) :
    wpX_counts post (r, g, act, gn, on, (fun i => nI (B i)), V, (fun i => nI (G i)), (fun i => nI (F i)), O, a6, C, d) (nI x) := by
  refine pk_loop (σ := Unit) (fun n i _ => wX_counts_2 post (nI x) r g act gn on (fun i => nI (B i)) V (fun i => nI (G i)) (fun i => nI (F i)) O a6 C d n (nI i)) (fun i _ => ∀ a, a < i → ¬ (zs_live F a ∧ B a = 16 ∧ G a = x)) 72 0 () (by omega) lt_0
    (fun n _ h => pk_le 72 72 (fun _ => H0 (fun hm => ?_)) (fun z => absurd z (by omega))) (fun n i _ hi h hw => ?_)
  · obtain ⟨m, m1, m2, m3, m4⟩ := hm
    exact h m m1 ⟨m2, m3, m4⟩
  · refine pk_le 72 i (fun z => absurd z (by omega)) (fun _ => ⟨zs_c12, zs_c12, ?_⟩)
    rw [zs_m12 (show i < 2 ^ 31 by omega), zs_i12 (show i < 2 ^ 31 by omega), nI_clamp (show i / 12 < 2 ^ 31 by omega), nI_clamp (show i < 2 ^ 31 by omega)]
    have hFi := hF (i / 12) (by omega)
    refine ⟨pk_in (i / 12) 6 (by omega), pk_le (F (i / 12)) (i % 12) (fun z => nm_r (nI_1 i) (hw () (lt_s h (fun t => ?_)))) (fun z => ⟨pk_in i 72 hi, ?_⟩)⟩
    · have t1 := t.1
      unfold zs_live at t1
      omega
    · have hBi := hB i hi z
      refine pk_eq (B i) 16 (fun eb => ⟨pk_in i 72 hi, pk_eq (G i) x (fun eg => H1 ⟨i, hi, z, eb, eg⟩) (fun eg => nm_r (nI_1 i) (hw () (lt_s h (fun t => eg t.2.2))))⟩) (fun eb => nm_r (nI_1 i) (hw () (lt_s h (fun t => eb t.2.1))))
theorem zs_rc105 {a1 a2 a3 a4 a5 a6 a7 a8 : Nat → Int32} (H : ∀ act, pS (r, g, act, gn, on, a1, a2, a3, a4, a5, a6, a7, a8)) : ∃ n, wX_recover_105 pS r g gn on a1 a2 a3 a4 a5 a6 a7 a8 n 0 (-1) := by
  refine pk_loop (σ := Int32) (fun n i s => wX_recover_105 pS r g gn on a1 a2 a3 a4 a5 a6 a7 a8 n (nI i) s) (fun _ s => s = -1 ∨ ∃ z, z < 6 ∧ s = nI z) 6 0 (-1) (by omega) (Or.inl rfl) (fun n s _ => pk_le 6 6 (fun _ => H s) (fun z => absurd z (by omega)))
    (fun n i s hi h hw => pk_le 6 i (fun z => absurd z (by omega)) (fun _ => ⟨pk_in i 6 hi, br_c (fun _ => nm_r (nI_1 i) (hw s h)) (fun _ => br_c (fun _ => nm_r (nI_1 i) (hw _ (Or.inr ⟨i, hi, rfl⟩))) (fun e => ⟨pk_in i 6 hi, ?_, br_c (fun _ => nm_r (nI_1 i) (hw s h)) (fun _ => nm_r (nI_1 i) (hw _ (Or.inr ⟨i, hi, rfl⟩)))⟩))⟩))
  obtain ⟨z, hz, ez⟩ := h.resolve_left e
  exact pk_in z 6 hz ez
theorem zs_rc_l (hF : ∀ z, z < 6 → F z ≤ 12) (hB : ∀ a, a < 72 → zs_live F a → B a ≤ 16 ∧ G a ≤ k) (hk : k < 2 ^ 31)
    (H : ∀ (act' : Int32) (T' : Nat → Nat), zs_Rc B G F T' 72 → pS (r, g, act', gn, on, (fun i => nI (B i)), V, (fun i => nI (G i)), (fun i => nI (F i)), O, (fun b => zs_m (T' b)), C, d)) :
    ∀ (n i : Nat) (T : Nat → Nat), i ≤ 72 → 72 - i < n → zs_Rc B G F T i → wX_recover_2 pS r g act gn on n (nI i) (fun i => nI (B i)) V (fun i => nI (G i)) (fun i => nI (F i)) O (fun b => zs_m (T b)) C d := by
  intro n
  induction n with
  | zero => exact fun i T _ h => absurd h (by omega)
  | succ n ih =>
    intro i T hi hn h
    by_cases ei : i = 72
    · subst ei
      exact pk_le 72 72 (fun _ => zs_rc105 (fun act' => H act' T h)) (fun z => absurd z (by omega))
    · have hi' : i < 72 := by omega
      refine pk_le 72 i (fun z => absurd z (by omega)) (fun _ => ⟨zs_c12, zs_c12, ?_⟩)
      rw [zs_m12 (show i < 2 ^ 31 by omega), zs_i12 (show i < 2 ^ 31 by omega), nI_clamp (show i / 12 < 2 ^ 31 by omega), nI_clamp (show i < 2 ^ 31 by omega)]
      have hFi := hF (i / 12) (by omega)
      have SK : ¬ (zs_live F i ∧ B i < 16 ∧ zs_mk B G F (G i)) → wX_recover_2 pS r g act gn on n (nI (i + 1)) (fun i => nI (B i)) V (fun i => nI (G i)) (fun i => nI (F i)) O (fun b => zs_m (T b)) C d :=
        fun z => ih (i + 1) T (by omega) (by omega) (zs_Rc_skip h z)
      refine ⟨pk_in (i / 12) 6 (by omega), pk_le (F (i / 12)) (i % 12) (fun z => nm_r (nI_1 i) (SK (fun t => ?_))) (fun z => ⟨pk_in i 72 hi', ?_⟩)⟩
      · have t1 := t.1
        unfold zs_live at t1
        omega
      · have hl : zs_live F i := z
        have hBi := hB i hi' hl
        refine pk_eq (B i) 16 (fun eb => nm_r (nI_1 i) (SK (fun t => absurd t.2.1 (by omega)))) (fun eb => ⟨pk_in i 72 hi', zs_ct hF hB hk (by omega) (fun hm => br_f (by decide) ⟨pk_in i 72 hi', ?_⟩) (fun hm => br_t rfl (nm_r (nI_1 i) (SK (fun t => hm t.2.2))))⟩)
        have hb : B i < 16 := by omega
        refine nm_r (e' := nI (B i)) rfl ⟨pk_in (B i) 16 hb, ?_⟩
        rw [nI_clamp (show B i < 2 ^ 31 by omega)]
        rcases zs_case (T (B i)) with e | ⟨t, e⟩
        · refine br_t (show zs_m (T (B i)) = -1 by rw [e]; rfl) ⟨pk_in (B i) 16 hb, nm_r (e' := fun b => zs_m (zs_up T (B i) (i + 1) b)) (zs_umf T (B i) (i + 1)) (nm_r (nI_1 i) (ih (i + 1) _ (by omega) (by omega) (zs_Rc_put h hl hm (fun t ht => absurd ht (by omega)) hb)))⟩
        · have em : zs_m (T (B i)) = nI t := by rw [e]; rfl
          have ht := (h.2 (B i) t hb e).1
          have hlt := (h.2 (B i) t hb e).2.1
          have hBt := hB t (by omega) hlt
          have ec : (zs_m (T (B i))).toNatClampNeg = t := by
            rw [em]
            exact nI_clamp (by omega)
          refine br_f (show ¬ zs_m (T (B i)) = -1 by rw [em]; exact zs_ne1 (by omega)) ⟨pk_in (B i) 16 hb, pk_in t 72 (by omega) em, pk_in i 72 hi', ?_⟩
          exact pk_le (G i) (G t) (fun z => nm_r (nI_1 i) (ih (i + 1) T (by omega) (by omega) (zs_Rc_keep h e z)))
            (fun z => ⟨pk_in (B i) 16 hb, nm_r (e' := fun b => zs_m (zs_up T (B i) (i + 1) b)) (zs_umf T (B i) (i + 1)) (nm_r (nI_1 i) (ih (i + 1) _ (by omega) (by omega) (zs_Rc_put h hl hm (fun t' ht' => by
              have : t' = t := by omega
              rw [this]; omega) hb)))⟩) rfl (show nI (G (zs_m (T (B i))).toNatClampNeg) = nI (G t) by rw [ec])
theorem zs_mount (hL : zs_L B G F T0 k) (hk : k < 2 ^ 31) (hT : ∀ b, b < 16 → T b = 0)
    (H : ∀ (act' : Int32) (T' : Nat → Nat), (∀ b, b < 16 → T' b = T0 b) → pR 0 (1, g, act', gn, on, (fun i => nI (B i)), V, (fun i => nI (G i)), (fun i => nI (F i)), O, (fun b => zs_m (T' b)), C, d)) :
    wpX_mount pR (0, g, act, gn, on, (fun i => nI (B i)), V, (fun i => nI (G i)), (fun i => nI (F i)), O, (fun b => zs_m (T b)), C, d) := by
  refine br_t rfl ⟨73, zs_rc_l hL.1 hL.2.1 hk (fun act' T' hr => ?_) 73 0 T (by omega) (by omega) (zs_Rc_0 hT)⟩
  exact H act' T' (zs_Rc_fin hL hr)
theorem zs_ck (hL : zs_L B G F T k) (hk : k < 2 ^ 31) (H : post 0) :
    wpX_check post (1, g, act, gn, on, (fun i => nI (B i)), V, (fun i => nI (G i)), (fun i => nI (F i)), O, (fun b => zs_m (T b)), C, d) := by
  refine br_f (by decide) ?_
  refine pk_loop (σ := Unit) (fun n i _ => wX_check_13 post 1 g act gn on (fun i => nI (B i)) V (fun i => nI (G i)) (fun i => nI (F i)) O (fun b => zs_m (T b)) C d n 0 (nI i)) (fun _ _ => True) 16 0 () (by omega) trivial
    (fun n _ _ => pk_le 16 16 (fun _ => H) (fun z => absurd z (by omega))) (fun n i _ hi _ hw => ?_)
  refine pk_le 16 i (fun z => absurd z (by omega)) (fun _ => ⟨pk_in i 16 hi, ?_⟩)
  rw [nI_clamp (show i < 2 ^ 31 by omega)]
  rcases zs_case (T i) with e | ⟨t, e⟩
  · exact nm_r (e' := -1) (show zs_m (T i) = -1 by rw [e]; rfl) (br_t rfl (nm_r (nI_1 i) (hw () trivial)))
  · refine nm_r (e' := nI t) (show zs_m (T i) = nI t by rw [e]; rfl) ?_
    obtain ⟨t1, t2, t3, t4, t5⟩ := hL.2.2.2.2.2 i t hi e
    rw [zs_m12 (show t < 2 ^ 31 by omega), zs_i12 (show t < 2 ^ 31 by omega), nI_clamp (show t / 12 < 2 ^ 31 by omega), nI_clamp (show t < 2 ^ 31 by omega)]
    have hFi := hL.1 (t / 12) (by omega)
    have hBt := hL.2.1 t t1 t2
    refine br_f (zs_ne1 (by omega)) ⟨pk_in t 72 t1, pk_eq (B t) i (fun _ => ⟨zs_c12, zs_c12, pk_in (t / 12) 6 (by omega), pk_le (F (t / 12)) (t % 12) (fun z => ?_) (fun _ => ⟨pk_in t 72 t1, zs_ct hL.1 hL.2.1 hk (by omega) (fun _ => br_f (by decide) (nm_r (nI_1 i) (hw () trivial))) (fun hn => absurd t4 hn)⟩)⟩) (fun z => absurd t3 z)⟩
    unfold zs_live at t2
    exact absurd z (by omega)
end
end
section
/-! the law from the crash on -/
def zs_due (v st half : Int32) (f w b : Nat) : Int32 := if f ≤ b ∧ b < f + w then v + nI (b - f) * st else half + nI b * 3
section
variable {post : Int32 → St0 → Prop} {mc ms kc ks : Nat} {g act gn on : Int32} {a1 V a3 a4 a5 C d : Nat → Int32} {T : Nat → Nat} {v st half : Int32} {n f s p : Nat}
theorem zs_471 {J386 J396 : Int32 → Prop} {x2 x3 x6 x7 x8 x9 x11 x12 z0 : Int32} {j b : Nat} (hb : b < 16) (hT : T b ≤ 72) (he : (if zs_D d b = true then C b else zs_st V T b) = z0) (H : J396 (nI (j + 1))) :
    wL_lawOf_471 post mc ms J386 J396 x2 x3 x6 x7 x8 x9 x11 x12 (nI j) (nI b) z0 kc ks 1 g act gn on a1 V a3 a4 a5 (fun b => zs_m (T b)) C d :=
  zs_rd hb hT (br_t he (nm_r (nI_1 j) H))
theorem zs_445 {J386 J396 : Int32 → Prop} {x6 x9 x11 x12 z0 : Int32} {j b w : Nat} (hb : b < 16) (hT : T b ≤ 72) (hz : (z0 = 0 ∧ ¬ (f ≤ b ∧ b < f + w)) ∨ (z0 = 1 ∧ f ≤ b ∧ b < f + w))
    (he : (if zs_D d b = true then C b else zs_st V T b) = zs_due v st half f w b) (H : J396 (nI (j + 1))) :
    wL_lawOf_445 post mc ms J386 J396 v st x6 (nI f) half x9 x11 x12 (nI j) (nI b) z0 kc ks 1 g act gn on a1 V a3 a4 a5 (fun b => zs_m (T b)) C d := by
  rcases hz with ⟨e, h⟩ | ⟨e, h⟩
  · refine br_t e (zs_471 hb hT (he.trans ?_) H)
    unfold zs_due
    rw [if_neg h, Int32.mul_comm]
  · refine br_f (by rw [e]; decide) (zs_471 hb hT (he.trans ?_) H)
    unfold zs_due
    rw [if_pos h, pk_sub h.1, Int32.mul_comm]
theorem zs_386 (hp : post 1 ()) (hf : f + n ≤ 16) (hsn : s ≤ n) (hp8 : p < 8) (hT : ∀ b, b < 16 → T b ≤ 72) (hd : ∀ b, b < 16 → d b = 0)
    (hS : ∀ b, b < 16 → zs_st V T b = zs_due v st half f (if p = 3 then n else s) b) :
    ∃ q, wL_lawOf_386 post mc ms v st (nI n) (nI f) half (nI s) (nI p) kc ks 1 g act gn on a1 V a3 a4 a5 (fun b => zs_m (T b)) C d q 0 := by
  refine pk_loop (σ := Unit) (fun q i _ => wL_lawOf_386 post mc ms v st (nI n) (nI f) half (nI s) (nI p) kc ks 1 g act gn on a1 V a3 a4 a5 (fun b => zs_m (T b)) C d q (nI i)) (fun _ _ => True) 8 0 () (by omega) trivial
    (fun q _ _ => pk_le 8 8 (fun _ => ?_) (fun z => absurd z (by omega))) (fun q i _ hi _ hw => pk_le 8 i (fun z => absurd z (by omega)) (fun _ => ?_))
  · refine br_f (by decide) (pk_lt 17 1 (fun z => absurd z (by omega)) (fun _ => pk_lt 16 17 (fun _ => br_t rfl (zs_dc ?_)) (fun z => absurd z (by omega))))
    rw [zs_cnt_0 (fun b hb => zs_D_f (hd b hb))]
    exact br_t rfl hp
  · refine pk_loop (σ := Unit) (fun q' j _ => wL_lawOf_396 post mc ms (wL_lawOf_386 post mc ms v st (nI n) (nI f) half (nI s) (nI p) kc ks 1 g act gn on a1 V a3 a4 a5 (fun b => zs_m (T b)) C d q) v st (nI n) (nI f) half (nI s) (nI p) (nI i) kc ks 1 g act gn on a1 V a3 a4 a5 (fun b => zs_m (T b)) C d q' (nI j)) (fun _ _ => True) 2 0 () (by omega) trivial
      (fun q' _ _ => pk_le 2 2 (fun _ => nm_r (nI_1 i) (hw () trivial)) (fun z => absurd z (by omega))) (fun q' j _ hj _ hwj => pk_le 2 j (fun z => absurd z (by omega)) (fun _ => nm_r (e' := nI (8 * j + i)) ?_ ?_))
    · show nI 8 * nI j + nI i = _
      rw [pk_mul, nI_add]
    · have hb : 8 * j + i < 16 := by omega
      have he : (if zs_D d (8 * j + i) = true then C (8 * j + i) else zs_st V T (8 * j + i)) = zs_due v st half f (if p = 3 then n else s) (8 * j + i) := by
        rw [zs_D_f (hd _ hb), if_neg (by decide)]
        exact hS _ hb
      refine pk_lt (8 * j + i) f (fun z => zs_445 hb (hT _ hb) (Or.inl ⟨rfl, fun t => absurd t.1 (by omega)⟩) he (hwj () trivial)) (fun z => pk_eq p 3 (fun e3 => ?_) (fun e3 => ?_))
      · rw [if_pos e3] at he
        exact pk_le (f + n) (8 * j + i) (fun z2 => zs_445 hb (hT _ hb) (Or.inl ⟨rfl, by omega⟩) he (hwj () trivial)) (fun z2 => zs_445 hb (hT _ hb) (Or.inr ⟨rfl, z, z2⟩) he (hwj () trivial)) (nI_add f n)
      · rw [if_neg e3] at he
        exact pk_le (f + s) (8 * j + i) (fun z2 => zs_445 hb (hT _ hb) (Or.inl ⟨rfl, by omega⟩) he (hwj () trivial)) (fun z2 => zs_445 hb (hT _ hb) (Or.inr ⟨rfl, z, z2⟩) he (hwj () trivial)) (nI_add f s)
theorem zs_307 {B G F T0 : Nat → Nat} {O : Nat → Int32} {k : Nat} (hp : post 1 ()) (hf : f + n ≤ 16) (hsn : s ≤ n) (hp8 : p < 8) (hL : zs_L B G F T0 k) (hk : k < 2 ^ 31) (hT : ∀ b, b < 16 → T b = 0) (hd : ∀ b, b < 16 → d b = 0)
    (hS : ∀ b, b < 16 → zs_st V T0 b = zs_due v st half f (if p = 3 then n else s) b) :
    wL_lawOf_307 post mc ms v st (nI n) (nI f) half (nI s) (nI p) kc ks 0 0 (-1) gn on (fun i => nI (B i)) V (fun i => nI (G i)) (fun i => nI (F i)) O (fun b => zs_m (T b)) C d := by
  unfold wL_lawOf_307
  refine br_t rfl (br_t rfl (br_t rfl (br_t rfl (br_t rfl (br_t rfl (br_t rfl (br_t rfl (br_t rfl (br_t rfl (zs_mount hL hk hT (fun act' T' hT' => br_t rfl (zs_ck (zs_L_tab hL hT') hk (br_t rfl (zs_pd (fun b hb => zs_L_T (zs_L_tab hL hT') hb) ?_))))))))))))))
  rw [zs_cnt_0 (p := zs_pq C d V T') (fun b hb => (if_pos (hd b hb) : zs_pq C d V T' b = false))]
  refine br_t rfl (zs_386 hp hf hsn hp8 (fun b hb => zs_L_T (zs_L_tab hL hT') hb) hd (fun b hb => ?_))
  rw [← hS b hb]
  unfold zs_st
  rw [hT' b hb]
end
end
section
/-! the law up to the crash, and the whole -/
def zs_cn (c0 : Nat) (p : Nat → Bool) : Nat → Nat
  | 0 => c0
  | n + 1 => zs_cn c0 p n + (if p n = true then 1 else 0)
def zs_ch (q : Nat → Bool) : Nat → Nat
  | 0 => 0
  | i + 1 => zs_cn (zs_ch q i) (fun j => q (8 * j + i)) 2
theorem zs_ch_16 (q : Nat → Bool) : zs_ch q 8 = zs_cnt q 16 := by
  simp [zs_ch, zs_cn, zs_cnt]
  omega
section
variable {post : Int32 → St0 → Prop} {mc ms kc ks : Nat} {g act gn on : Int32} {a1 V a3 a4 a5 C d : Nat → Int32} {T : Nat → Nat} {v st half : Int32} {n f s : Nat}
theorem zs_194 {J116 J126 : Int32 → Int32 → Prop} {x2 x3 x4 x6 x8 x11 x14 x15 z0 : Int32} {j b c : Nat} (hb : b < 16) (hT : T b ≤ 72) (hfs : f + s < 2 ^ 31) (he : (if zs_D d b = true then C b else zs_st V T b) = z0)
    (hq0 : x14 = 0 ∨ b < f + s ∨ z0 = x15 → zs_pq C d V T b = false) (hq1 : ¬ x14 = 0 → f + s ≤ b → ¬ z0 = x15 → zs_pq C d V T b = true)
    (H : J126 (nI (c + (if zs_pq C d V T b = true then 1 else 0))) (nI (j + 1))) :
    wL_lawOf_194 post mc ms J116 J126 x2 x3 x4 x6 (nI f) x8 (nI s) (nI c) x11 (nI j) (nI b) x14 x15 z0 kc ks 1 g act gn on a1 V a3 a4 a5 (fun b => zs_m (T b)) C d := by
  have H0 : zs_pq C d V T b = false → J126 (nI c) (nI (j + 1)) := fun h => by
    rw [h, if_neg (by decide)] at H
    exact H
  have H1 : zs_pq C d V T b = true → J126 (nI (c + 1)) (nI (j + 1)) := fun h => by
    rw [h, if_pos rfl] at H
    exact H
  exact zs_rd hb hT (br_t he (br_c (fun e => nm_r (nI_1 j) (H0 (hq0 (Or.inl e)))) (fun e => pk_lt b (f + s) (fun z => nm_r (nI_1 j) (H0 (hq0 (Or.inr (Or.inl z))))) (fun z => br_c (fun e2 => nm_r (nI_1 j) (H0 (hq0 (Or.inr (Or.inr e2))))) (fun e2 => nm_r (nI_1 c) (nm_r (nI_1 j) (H1 (hq1 e z e2))))) rfl (nI_add f s))))
theorem zs_164 {J116 J126 : Int32 → Int32 → Prop} {x4 x6 x11 z0 : Int32} {j b c : Nat} (hb : b < 16) (hT : T b ≤ 72) (hfs : f + s < 2 ^ 31) (hz : (z0 = 0 ∧ ¬ (f ≤ b ∧ b < f + n)) ∨ (z0 = 1 ∧ f ≤ b ∧ b < f + n))
    (he : (if zs_D d b = true then C b else zs_st V T b) = zs_due v st half f n b)
    (hq : zs_pq C d V T b = true ↔ (f + s ≤ b ∧ b < f + n) ∧ ¬ v + nI (b - f) * st = half + nI b * 3)
    (H : J126 (nI (c + (if zs_pq C d V T b = true then 1 else 0))) (nI (j + 1))) :
    wL_lawOf_164 post mc ms J116 J126 v st x4 x6 (nI f) half (nI s) (nI c) x11 (nI j) (nI b) z0 kc ks 1 g act gn on a1 V a3 a4 a5 (fun b => zs_m (T b)) C d := by
  have hqf : ¬ ((f + s ≤ b ∧ b < f + n) ∧ ¬ v + nI (b - f) * st = half + nI b * 3) → zs_pq C d V T b = false := fun h => by
    cases e : zs_pq C d V T b with
    | false => rfl
    | true => exact absurd (hq.mp e) h
  refine nm_r (e' := half + nI b * 3) (by rw [Int32.mul_comm]) ?_
  rcases hz with ⟨e, h⟩ | ⟨e, h⟩
  · have he2 : zs_due v st half f n b = half + nI b * 3 := by
      unfold zs_due
      rw [if_neg h]
    refine br_t e (zs_194 hb hT hfs (he.trans he2) (fun _ => hqf (fun t => h ⟨by omega, t.1.2⟩)) (fun z => absurd e z) H)
  · have he2 : zs_due v st half f n b = v + st * (nI b - nI f) := by
      unfold zs_due
      rw [if_pos h, pk_sub h.1, Int32.mul_comm]
    have hz0 : ¬ z0 = 0 := by rw [e]; decide
    have hv : v + st * (nI b - nI f) = v + nI (b - f) * st := by rw [pk_sub h.1, Int32.mul_comm]
    refine br_f hz0 (zs_194 hb hT hfs (he.trans he2) (fun z => hqf (fun t => ?_)) (fun _ z z2 => hq.mpr ⟨⟨z, h.2⟩, fun t => z2 (hv.trans t)⟩) H)
    rcases z with z | z | z
    · exact hz0 z
    · omega
    · exact t.2 (hv.symm.trans z)
end
theorem zs_116 {post : Int32 → St0 → Prop} {mc ms kc ks : Nat} {act x4 v st half : Int32} {n f jj gn0 gn on E fa : Nat} {B : Nat → Nat} {V : Nat → Int32} {G F : Nat → Nat} {O : Nat → Int32} {T : Nat → Nat} {S0 C d : Nat → Int32}
    (hp : post 1 ()) (hfn : f + n ≤ 16) (hjn : 6 * jj < n) (hjn2 : n ≤ 6 * jj + 6) (hg : gn < 1000) (hroom : (zs_sch E fa jj).2 + 7 ≤ 12 ∨ 2 ≤ (zs_sch E fa jj).1)
    (hK : zs_FK f (fun i => v + nI i * st) S0 gn0 E fa jj n act gn on B V G F O T C d) (hS0 : ∀ b, b < 16 → S0 b = half + nI b * 3) :
    ∃ q, wL_lawOf_116 post mc ms v st x4 (nI n) (nI f) half (nI (6 * jj)) kc ks 1 0 act (nI gn) (nI on) (fun i => nI (B i)) V (fun i => nI (G i)) (fun i => nI (F i)) O (fun b => zs_m (T b)) C d q 0 0 := by
  obtain ⟨k1, hR, k3, k4⟩ := hK
  have hT : ∀ b, b < 16 → T b ≤ 72 := fun b hb => zs_L_T hR.1 hb
  have hcnt : zs_cnt (zs_D d) 16 = n - 6 * jj := by
    rw [zs_cnt_iv k3 (by omega)]
    omega
  have hst : ∀ b, b < 16 → zs_st V T b = if f ≤ b ∧ b < f + 6 * jj then v + nI (b - f) * st else S0 b := hR.2.2.2.2.2
  have hrd : ∀ b, b < 16 → (if zs_D d b = true then C b else zs_st V T b) = zs_due v st half f n b := by
    intro b hb
    unfold zs_due
    cases e : zs_D d b with
    | true =>
      have e2 := (k3 b hb).mp e
      rw [if_pos rfl, k4 b hb e2.1 e2.2, if_pos (by omega)]
    | false =>
      have e2 : ¬ (f + 6 * jj ≤ b ∧ b < f + n) := fun z => by
        rw [(k3 b hb).mpr z] at e
        exact absurd e (by decide)
      rw [if_neg (by decide), hst b hb]
      by_cases e3 : f ≤ b ∧ b < f + 6 * jj
      · rw [if_pos e3, if_pos (by omega)]
      · rw [if_neg e3, if_neg (by omega)]
        exact hS0 b hb
  have hpq : ∀ b, b < 16 → (zs_pq C d V T b = true ↔ (f + 6 * jj ≤ b ∧ b < f + n) ∧ ¬ v + nI (b - f) * st = half + nI b * 3) := by
    intro b hb
    by_cases e : d b = 0
    · have e1 : zs_pq C d V T b = false := if_pos e
      have e2 : ¬ (f + 6 * jj ≤ b ∧ b < f + n) := fun z => zs_D_of ((k3 b hb).mpr z) e
      rw [e1]
      exact ⟨fun z => absurd z (by decide), fun z => absurd z.1 e2⟩
    · have e2 := (k3 b hb).mp (zs_D_t e)
      have e3 : C b = v + nI (b - f) * st := k4 b hb e2.1 e2.2
      have e4 : zs_st V T b = half + nI b * 3 := by
        rw [hst b hb, if_neg (by omega)]
        exact hS0 b hb
      by_cases e5 : C b = zs_st V T b
      · have e1 : zs_pq C d V T b = false := (if_neg e).trans (if_pos e5)
        rw [e1]
        exact ⟨fun z => absurd z (by decide), fun z => absurd (e3.symm.trans (e5.trans e4)) z.2⟩
      · have e1 : zs_pq C d V T b = true := (if_neg e).trans (if_neg e5)
        rw [e1]
        exact ⟨fun _ => ⟨e2, fun z => e5 (e3.trans (z.trans e4.symm))⟩, fun _ => rfl⟩
  refine pk_loop (σ := Unit) (fun q i _ => wL_lawOf_116 post mc ms v st x4 (nI n) (nI f) half (nI (6 * jj)) kc ks 1 0 act (nI gn) (nI on) (fun i => nI (B i)) V (fun i => nI (G i)) (fun i => nI (F i)) O (fun b => zs_m (T b)) C d q (nI (zs_ch (zs_pq C d V T) i)) (nI i)) (fun _ _ => True) 8 0 () (by omega) trivial
    (fun q _ _ => pk_le 8 8 (fun _ => ?_) (fun z => absurd z (by omega))) (fun q i _ hi _ hw => pk_le 8 i (fun z => absurd z (by omega)) (fun _ => ?_))
  · refine zs_pd hT (br_t (by rw [zs_ch_16]) (zs_cl hR (fun F' O' hR' => br_t rfl ?_)))
    obtain ⟨p, hp8, ep⟩ := pk_andE x4 (m := 7) 3 (by decide)
    refine nm_r ep (pk_le p 3 (fun hp3 => ?_) (fun hp3 => ?_))
    · refine br_f (by decide) (br_f (nI_pos (by omega)) (pk_le p 3 (fun _ => ?_) (fun z => absurd z (by omega))))
      refine zs_flushP hR' hg hroom hcnt (by omega) hp3 (fun act' gn' on' B' V' G' F'' O'' T' d' hgn hL hS => zs_fall (fun T'' d'' hT'' hd'' => br_t rfl (zs_307 hp hfn (by omega) hp8 hL (by omega) hT'' hd'' (fun b hb => ?_))))
      rw [hS b hb]
      by_cases e3 : p = 3
      · rw [if_pos e3, ← hrd b hb, hst b hb]
        cases e : zs_D d b with
        | true => rw [if_pos ⟨e3, rfl⟩, if_pos rfl]
        | false => rw [if_neg (fun z => absurd z.2 (by decide)), if_neg (show ¬ (false = true) by decide)]
      · rw [if_neg e3, if_neg (fun z => e3 z.1)]
        unfold zs_due
        by_cases e4 : f ≤ b ∧ b < f + 6 * jj
        · rw [if_pos e4, if_pos e4]
        · rw [if_neg e4, if_neg e4]
          exact hS0 b hb
    · refine br_f (by decide) (zs_dc (zs_fall (fun T'' d'' hT'' hd'' => br_t ?_ (zs_307 hp hfn (by omega) hp8 hR'.1 (by omega) hT'' hd'' (fun b hb => ?_)))))
      · rw [hcnt, pk_sub (by omega)]
      · rw [hst b hb, if_neg (show ¬ p = 3 by omega)]
        unfold zs_due
        by_cases e4 : f ≤ b ∧ b < f + 6 * jj
        · rw [if_pos e4, if_pos e4]
        · rw [if_neg e4, if_neg e4]
          exact hS0 b hb
  · refine pk_loop (σ := Unit) (fun q' j _ => wL_lawOf_126 post mc ms (wL_lawOf_116 post mc ms v st x4 (nI n) (nI f) half (nI (6 * jj)) kc ks 1 0 act (nI gn) (nI on) (fun i => nI (B i)) V (fun i => nI (G i)) (fun i => nI (F i)) O (fun b => zs_m (T b)) C d q) v st x4 (nI n) (nI f) half (nI (6 * jj)) (nI i) kc ks 1 0 act (nI gn) (nI on) (fun i => nI (B i)) V (fun i => nI (G i)) (fun i => nI (F i)) O (fun b => zs_m (T b)) C d q' (nI (zs_cn (zs_ch (zs_pq C d V T) i) (fun j => zs_pq C d V T (8 * j + i)) j)) (nI j)) (fun _ _ => True) 2 0 () (by omega) trivial
      (fun q' _ _ => pk_le 2 2 (fun _ => nm_r (nI_1 i) (hw () trivial)) (fun z => absurd z (by omega))) (fun q' j _ hj _ hwj => pk_le 2 j (fun z => absurd z (by omega)) (fun _ => nm_r (e' := nI (8 * j + i)) ?_ ?_))
    · show nI 8 * nI j + nI i = _
      rw [pk_mul, nI_add]
    · have hb : 8 * j + i < 16 := by omega
      exact pk_lt (8 * j + i) f (fun z => zs_164 hb (hT _ hb) (by omega) (Or.inl ⟨rfl, by omega⟩) (hrd _ hb) (hpq _ hb) (hwj () trivial)) (fun z => pk_le (f + n) (8 * j + i) (fun z2 => zs_164 hb (hT _ hb) (by omega) (Or.inl ⟨rfl, by omega⟩) (hrd _ hb) (hpq _ hb) (hwj () trivial)) (fun z2 => zs_164 hb (hT _ hb) (by omega) (Or.inr ⟨rfl, z, z2⟩) (hrd _ hb) (hpq _ hb) (hwj () trivial)) (nI_add f n))
theorem zs_law (post : Int32 → St0 → Prop) (hp : post 1 ()) (p0 p1 p2 p3 p4 : Int32) : wpL_lawOf post 9 289 () p0 p1 p2 p3 p4 := by
  obtain ⟨j1, hj1, e1⟩ := pk_andE p1 (m := 15) 4 (by decide)
  obtain ⟨j0, hj0, e0⟩ := pk_andE p0 (m := 15) 4 (by decide)
  have es : (17 : Int32) - nI (1 + j1) = nI (17 - (1 + j1)) := pk_sub (a := 17) (by omega)
  unfold wpL_lawOf
  refine ⟨by omega, by omega, 8, 276, by omega, by omega, zs_init (by omega) (by omega) (fun O T hO hT => ?_)⟩
  refine nm_r (e' := nI (1 + j1)) (by rw [e1]; exact nI_add 1 j1) ⟨by rw [es]; exact nI_ne0 (by omega) (by omega), nm_r (e' := nI (j0 % (17 - (1 + j1)))) (by rw [e0, es]; exact pk_rem (by omega) (by omega) (by omega)) (nm_e ?_)⟩
  have hmod : j0 % (17 - (1 + j1)) < 17 - (1 + j1) := Nat.mod_lt _ (by omega)
  generalize j0 % (17 - (1 + j1)) = f at hmod ⊢
  generalize p2 >>> ((1 : Int32) &&& 31) = half
  have hR0 : zs_R (-1) 0 0 (fun _ => 0) (fun _ => 0) (fun _ => 0) (fun _ => 0) O T 6 12 (fun _ => 0) := by
    refine ⟨zs_L_0 (fun _ => rfl) hT, fun _ _ _ => rfl, Nat.le_refl 0, Or.inl ⟨rfl, rfl⟩, ?_, fun b hb => zs_st_0 (hT b hb)⟩
    rw [zs_cnt_iv (a := 0) (c := 6) (fun z hz => ⟨fun _ => ⟨by omega, hz⟩, fun _ => zs_ezp_t (hO z hz)⟩) (by omega)]
    omega
  refine zs_fill (f := 0) (N := 16) (gn := 0) (on := 0) (by omega) (by omega) (by omega) (fun j hj => ?_) hR0 (fun _ _ => rfl) (fun act gn on B V G F O T C d hK => ?_)
  · have : j = 0 ∨ j = 1 := by omega
    rcases this with e | e
    · subst e; decide
    · subst e; decide
  · obtain ⟨k1, hR, k3, k4⟩ := hK
    refine br_t rfl (zs_sync (m := 4) hR (by omega) (by decide) (by rw [zs_cnt_iv k3 (by omega)]; omega) (by omega) (by omega) (fun act' on' B' V' G' F' O' T' d' hR' hd' => br_t rfl ?_))
    have hR2 : zs_R act' (gn + 1) on' B' V' G' F' O' T' 3 5 (fun b => half + nI b * 3) := by
      refine zs_R_S hR' (fun b hb => ?_)
      show (if zs_D d b = true then C b else if 0 ≤ b ∧ b < 0 + 6 * ((16 - 1) / 6) then half + nI (b - 0) * 3 else 0) = half + nI b * 3
      cases e : zs_D d b with
      | true =>
        have e2 := (k3 b hb).mp e
        rw [if_pos rfl, k4 b hb e2.1 e2.2]
        rfl
      | false =>
        have e2 : ¬ (0 + 6 * ((16 - 1) / 6) ≤ b ∧ b < 0 + 16) := fun z => by
          rw [(k3 b hb).mpr z] at e
          exact absurd e (by decide)
        rw [if_neg (by decide), if_pos (by omega)]
        rfl
    refine zs_fill (N := 1 + j1) (E := 3) (fa := 5) (by omega) (by omega) (by omega) (fun j hj => ?_) hR2 hd' (fun act2 gn2 on2 B2 V2 G2 F2 O2 T2 C2 d2 hK2 => ?_)
    · have : j = 0 ∨ j = 1 := by omega
      rcases this with e | e
      · subst e; decide
      · subst e; decide
    · have hj6 : (1 + j1 - 1) / 6 = 0 ∨ (1 + j1 - 1) / 6 = 1 ∨ (1 + j1 - 1) / 6 = 2 := by omega
      have hcnt : zs_cnt (zs_D d2) 16 = 1 + j1 - 6 * ((1 + j1 - 1) / 6) := by
        rw [zs_cnt_iv hK2.2.2.1 (by omega)]
        omega
      have hs : (nI (1 + j1) - 1) / 6 * 6 = nI (6 * ((1 + j1 - 1) / 6)) := by
        have h1 : nI (1 + j1) - 1 = nI (1 + j1 - 1) := pk_sub (b := 1) (by omega)
        have h2 : nI (1 + j1 - 1) / 6 = nI ((1 + j1 - 1) / 6) := pk_div (d := 6) (by omega) (by omega) (by omega)
        have h3 : nI ((1 + j1 - 1) / 6) * 6 = nI ((1 + j1 - 1) / 6 * 6) := pk_mul _ 6
        rw [h1, h2, h3, Nat.mul_comm]
      refine br_t rfl ⟨by decide, nm_r hs (zs_dc ?_)⟩
      rw [hcnt]
      refine br_t (by rw [pk_sub (by omega)]) (br_t rfl (br_t rfl (zs_116 hp (by omega) (by omega) (by omega) (by have := hK2.1; omega) ?_ hK2 (fun b _ => rfl))))
      rcases hj6 with e | e | e
      · rw [e]; decide
      · rw [e]; decide
      · rw [e]; decide
theorem zs_cell {post : Int32 → Prop} {L : Nat} {xs : Nat → Int32} {i : Nat} (hL : L ≤ 5) (hi : i ≤ 4) (H : ∀ x, post x) : wpL_cellAt post L xs () (nI i) :=
  pk_le L i (fun _ => H _) (fun z => ⟨pk_in i L z, H _⟩)
theorem i_vc (xs : Nat → Int32) (L : Nat) (hL : L ≤ 5) : wpL_law (fun r => r = 1) L xs :=
  zs_cell (i := 0) hL (by omega) (fun r1 => zs_cell (i := 1) hL (by omega) (fun r2 => zs_cell (i := 2) hL (by omega) (fun r3 => zs_cell (i := 3) hL (by omega) (fun r4 => zs_cell (i := 4) hL (by omega) (fun r5 => ⟨9, 289, by omega, by omega, zs_law _ rfl r1 r2 r3 r4 r5⟩)))))
end
