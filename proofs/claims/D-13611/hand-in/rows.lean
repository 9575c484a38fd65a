section
/-! PART 1: plain rows: counting, the picture, the invariant -/
/-- the picture: who is up (U), home contents (H), contents (V), owners of open writes (O; 3: nobody) -/
abbrev sd_A : Type := (Nat → Int32) × (Nat → Int32) × (Nat → Int32) × (Nat → Nat)
def sd_up (f : Nat → Nat) (k x : Nat) : Nat → Nat := fun j => if j = k then x else f j
theorem sd_up_s {f : Nat → Nat} {k x : Nat} : sd_up f k x k = x := if_pos rfl
theorem sd_up_n {f : Nat → Nat} {k j x : Nat} (h : j ≠ k) : sd_up f k x j = f j := if_neg h
theorem sd_m1T : (-1 : Int32).toInt = -1 := by decide
theorem sd_m1 {b : Nat} (hb : b < 2 ^ 31) : (-1 : Int32) ≠ nI b := by
  intro h
  have h2 := congrArg Int32.toInt h
  rw [nI_toInt hb, sd_m1T] at h2
  omega
theorem sd_inj {a b : Nat} (ha : a < 16) (hb : b < 16) (h : nI a = nI b) : a = b :=
  (nI_eq (by omega) (by omega)).mp h
theorem sd_mul (n k : Nat) (x : Int32) (hx : x = nI k) : nI n * x = nI (n * k) := by
  rw [hx, pk_mul]
/-! counting -/
noncomputable def sd_ct (p : Nat → Prop) : Nat → Nat
  | 0 => 0
  | k + 1 => sd_ct p k + @ite Nat (p k) (Classical.propDecidable (p k)) 1 0
theorem sd_ct_t {p : Nat → Prop} {k : Nat} (h : p k) : sd_ct p (k + 1) = sd_ct p k + 1 := by
  show sd_ct p k + @ite Nat (p k) (Classical.propDecidable (p k)) 1 0 = _
  rw [if_pos h]
theorem sd_ct_f {p : Nat → Prop} {k : Nat} (h : ¬ p k) : sd_ct p (k + 1) = sd_ct p k := by
  show sd_ct p k + @ite Nat (p k) (Classical.propDecidable (p k)) 1 0 = _
  rw [if_neg h, Nat.add_zero]
theorem sd_ct_congr {p q : Nat → Prop} : ∀ k, (∀ b, b < k → (p b ↔ q b)) → sd_ct p k = sd_ct q k
  | 0, _ => rfl
  | k + 1, h => by
    have ih := sd_ct_congr k (fun b hb => h b (by omega))
    by_cases hp : p k
    · rw [sd_ct_t hp, sd_ct_t ((h k (by omega)).mp hp), ih]
    · rw [sd_ct_f hp, sd_ct_f (fun z => hp ((h k (by omega)).mpr z)), ih]
theorem sd_ct_le (p : Nat → Prop) : ∀ k, sd_ct p k ≤ k
  | 0 => Nat.le_refl 0
  | k + 1 => by
    have ih := sd_ct_le p k
    by_cases hp : p k
    · rw [sd_ct_t hp]; omega
    · rw [sd_ct_f hp]; omega
theorem sd_ct_0 {p : Nat → Prop} : ∀ k, (∀ b, b < k → ¬ p b) → sd_ct p k = 0
  | 0, _ => rfl
  | k + 1, h => by
    rw [sd_ct_f (h k (by omega)), sd_ct_0 k (fun b hb => h b (by omega))]
theorem sd_ct_add {p q : Nat → Prop} {b0 : Nat} (hp : ¬ p b0) (hq : q b0) : ∀ k, (∀ b, b < k → b ≠ b0 → (q b ↔ p b)) → b0 < k → sd_ct q k = sd_ct p k + 1
  | 0, _, hb => absurd hb (by omega)
  | k + 1, h, hb => by
    by_cases e : b0 = k
    · rw [← e, sd_ct_t hq, sd_ct_f hp, sd_ct_congr b0 (fun b hb => h b (by omega) (by omega))]
    · have ih := sd_ct_add hp hq k (fun b hb => h b (by omega)) (by omega)
      have hk := h k (by omega) (fun z => e z.symm)
      by_cases hpk : p k
      · rw [sd_ct_t (hk.mpr hpk), sd_ct_t hpk, ih]
      · rw [sd_ct_f (fun z => hpk (hk.mp z)), sd_ct_f hpk, ih]
/-- two predicates that exclude each other: the counts add -/
theorem sd_ct_or {p q r : Nat → Prop} : ∀ k, (∀ b, b < k → (r b ↔ (p b ∨ q b)) ∧ ¬ (p b ∧ q b)) → sd_ct r k = sd_ct p k + sd_ct q k
  | 0, _ => rfl
  | k + 1, h => by
    have ih := sd_ct_or k (fun b hb => h b (by omega))
    have hk := h k (by omega)
    by_cases hp : p k
    · rw [sd_ct_t (hk.1.mpr (Or.inl hp)), sd_ct_t hp, sd_ct_f (fun z => hk.2 ⟨hp, z⟩), ih]; omega
    · by_cases hq : q k
      · rw [sd_ct_t (hk.1.mpr (Or.inr hq)), sd_ct_t hq, sd_ct_f hp, ih]; omega
      · rw [sd_ct_f (fun z => (hk.1.mp z).elim hp hq), sd_ct_f hq, sd_ct_f hp, ih]
/-- distinct blocks below 16 in c places: their number is c -/
theorem sd_ct_j {f : Nat → Int32} : ∀ c, (∀ i, i < c → ∃ b, b < 16 ∧ f i = nI b) → (∀ i j, i < c → j < c → f i = f j → i = j) → sd_ct (fun b => ∃ i, i < c ∧ f i = nI b) 16 = c
  | 0, _, _ => sd_ct_0 16 (fun b _ ⟨i, hi, _⟩ => absurd hi (by omega))
  | c + 1, h, hj => by
    have ih := sd_ct_j c (fun i hi => h i (by omega)) (fun i j hi hj' => hj i j (by omega) (by omega))
    obtain ⟨b0, hb0, e0⟩ := h c (by omega)
    have key : sd_ct (fun b => ∃ i, i < c + 1 ∧ f i = nI b) 16 = sd_ct (fun b => ∃ i, i < c ∧ f i = nI b) 16 + 1 := by
      refine sd_ct_add (b0 := b0) ?_ ?_ 16 ?_ hb0
      · intro ⟨i, hi, e⟩
        have := hj i c (by omega) (by omega) (e.trans e0.symm)
        omega
      · exact ⟨c, by omega, e0⟩
      · intro b hb hne
        constructor
        · intro ⟨i, hi, e⟩
          by_cases ec : i = c
          · rw [ec, e0] at e
            exact absurd (sd_inj hb0 hb e).symm hne
          · exact ⟨i, by omega, e⟩
        · intro ⟨i, hi, e⟩
          exact ⟨i, by omega, e⟩
    rw [key, ih]
/-! the invariant -/
/-- a dirty cell of node n holds block b -/
def sd_dc (R : Nat) (a9 a11 : Nat → Int32) (n b : Nat) : Prop := ∃ i, i < R ∧ a9 (n * 8 + i) = nI b ∧ ¬ a11 (n * 8 + i) = 0
/-- node n's journal -/
def sd_JN (V : Nat → Int32) (O : Nat → Nat) (D : Nat → Prop) (a3 a4 a5 : Nat → Int32) (n : Nat) : Prop :=
  ∃ c, c ≤ 16 ∧ a3 n = nI c ∧ (∀ i, i < c → ∃ b, b < 16 ∧ a4 (n * 16 + i) = nI b ∧ O b = n ∧ (a5 (n * 16 + i) = V b ∨ D b))
    ∧ (∀ i j, i < c → j < c → a4 (n * 16 + i) = a4 (n * 16 + j) → i = j)
    ∧ (∀ b, b < 16 → O b = n → (∃ i, i < c ∧ a4 (n * 16 + i) = nI b) ∨ D b)
/-- node n's cells -/
def sd_CN (R : Nat) (V : Nat → Int32) (O : Nat → Nat) (a9 a10 a11 : Nat → Int32) (n : Nat) : Prop :=
  (∀ i, i < 8 → (a9 (n * 8 + i) = -1 ∧ a11 (n * 8 + i) = 0) ∨ (i < R ∧ ∃ b, b < 16 ∧ a9 (n * 8 + i) = nI b ∧ a10 (n * 8 + i) = V b ∧ (O b = n ∨ (O b = 3 ∧ a11 (n * 8 + i) = 0))))
    ∧ (∀ i j, i < 8 → j < 8 → a9 (n * 8 + i) = a9 (n * 8 + j) → ¬ a9 (n * 8 + i) = -1 → i = j)
/-- locks: a free one guards nothing -/
def sd_L (O : Nat → Nat) (a8 a9 : Nat → Int32) : Prop :=
  ∀ m b, m < 3 → b < 16 → a8 (m * 16 + b) = 0 → ¬ O b = m ∧ ∀ i, i < 8 → ¬ a9 (m * 8 + i) = nI b
/-- owners and home -/
def sd_O (H V : Nat → Int32) (O : Nat → Nat) : Prop := ∀ b, b < 16 → O b ≤ 3 ∧ (O b = 3 → V b = H b)
def sd_K (R : Nat) (U H V : Nat → Int32) (O : Nat → Nat) (a1 a2 a3 a4 a5 a8 a9 a10 a11 a12 : Nat → Int32) : Prop :=
  (2 ≤ R ∧ R ≤ 8) ∧ (∀ n, n < 3 → a1 n = U n) ∧ (∀ b, b < 16 → a2 b = H b) ∧ sd_O H V O ∧ sd_L O a8 a9
    ∧ (∀ n, n < 3 → sd_JN V O (sd_dc R a9 a11 n) a3 a4 a5 n) ∧ (∀ n, n < 3 → sd_CN R V O a9 a10 a11 n)
    ∧ (∀ n, n < 3 → ∃ h, h < R ∧ a12 n = nI h)
/-- the invariant of a whole state between methods: no journal is marked -/
def sd_I (s : St1) (A : sd_A) : Prop := match s with
  | (f0, a1, a2, a3, a4, a5, _a6, a7, a8, a9, a10, a11, a12) => ∃ R, f0 = nI R ∧ sd_K R A.1 A.2.1 A.2.2.1 A.2.2.2 a1 a2 a3 a4 a5 a8 a9 a10 a11 a12 ∧ ∀ n, n < 3 → a7 n = 0
end
section
/-! PART 2: the invariant's steps, with no program in sight -/
section
variable {R n m b i : Nat} {U H V V' : Nat → Int32} {O O' : Nat → Nat} {D D' : Nat → Prop}
variable {a1 a2 a3 a4 a5 a8 a9 a10 a11 a12 a1' a2' a3' a4' a5' a8' a9' a10' a11' a12' : Nat → Int32}
theorem sd_JN_fr (h : sd_JN V O D a3 a4 a5 n) (h3 : a3' n = a3 n)
    (h45 : ∀ i, i < 16 → a4' (n * 16 + i) = a4 (n * 16 + i) ∧ a5' (n * 16 + i) = a5 (n * 16 + i))
    (hO : ∀ b, b < 16 → (O' b = n ↔ O b = n)) (hV : ∀ b, b < 16 → O b = n → V' b = V b ∨ D' b) (hD : ∀ b, b < 16 → D b → D' b) :
    sd_JN V' O' D' a3' a4' a5' n := by
  obtain ⟨c, hc, e3, h1, h2, h4⟩ := h
  refine ⟨c, hc, h3.trans e3, fun i hi => ?_, fun i j hi hj e => ?_, fun b hb ho => ?_⟩
  · obtain ⟨b, hb, e4, eo, ev⟩ := h1 i hi
    have e := h45 i (by omega)
    refine ⟨b, hb, e.1.trans e4, (hO b hb).mpr eo, ?_⟩
    rcases ev with ev | ev
    · rcases hV b hb eo with z | z
      · exact Or.inl (e.2.trans (ev.trans z.symm))
      · exact Or.inr z
    · exact Or.inr (hD b hb ev)
  · rw [(h45 i (by omega)).1, (h45 j (by omega)).1] at e
    exact h2 i j hi hj e
  · rcases h4 b hb ((hO b hb).mp ho) with ⟨i, hi, e⟩ | z
    · exact Or.inl ⟨i, hi, (h45 i (by omega)).1.trans e⟩
    · exact Or.inr (hD b hb z)
theorem sd_JN_0 (h3 : a3 n = 0) (hO : ∀ b, b < 16 → ¬ O b = n) : sd_JN V O D a3 a4 a5 n :=
  ⟨0, by omega, h3.trans nI_0.symm, fun i hi => absurd hi (by omega), fun i j hi => absurd hi (by omega), fun b hb ho => absurd ho (hO b hb)⟩
theorem sd_dc_fr (hR : R ≤ 8) (h : ∀ i, i < 8 → a9' (n * 8 + i) = a9 (n * 8 + i) ∧ a11' (n * 8 + i) = a11 (n * 8 + i)) (z : sd_dc R a9 a11 n b) : sd_dc R a9' a11' n b := by
  obtain ⟨j, hj, e, e'⟩ := z
  have q := h j (by omega)
  exact ⟨j, hj, q.1.trans e, fun w => e' (q.2.symm.trans w)⟩
theorem sd_CN_fr (h : sd_CN R V O a9 a10 a11 n)
    (h9 : ∀ i, i < 8 → a9' (n * 8 + i) = a9 (n * 8 + i) ∧ a10' (n * 8 + i) = a10 (n * 8 + i) ∧ a11' (n * 8 + i) = a11 (n * 8 + i))
    (hb : ∀ b i, b < 16 → i < 8 → a9 (n * 8 + i) = nI b → (O b = n ∨ (O b = 3 ∧ a11 (n * 8 + i) = 0)) → V' b = V b ∧ (O' b = n ∨ (O' b = 3 ∧ a11 (n * 8 + i) = 0))) :
    sd_CN R V' O' a9' a10' a11' n := by
  obtain ⟨c1, c2⟩ := h
  refine ⟨fun i hi => ?_, fun i j hi hj e ne => ?_⟩
  · obtain ⟨e9, e10, e11⟩ := h9 i hi
    rw [e9, e10, e11]
    rcases c1 i hi with z | ⟨z1, b, z2, z3, z4, z5⟩
    · exact Or.inl z
    · obtain ⟨w1, w2⟩ := hb b i z2 hi z3 z5
      exact Or.inr ⟨z1, b, z2, z3, z4.trans w1.symm, w2⟩
  · rw [(h9 i hi).1, (h9 j hj).1] at e
    rw [(h9 i hi).1] at ne
    exact c2 i j hi hj e ne
def sd_flO (m : Nat) (O : Nat → Nat) : Nat → Nat := fun c => if O c = m then 3 else O c
def sd_flH (m : Nat) (H V : Nat → Int32) (O : Nat → Nat) : Nat → Int32 := fun c => if O c = m then V c else H c
def sd_loV (m : Nat) (H V : Nat → Int32) (O : Nat → Nat) : Nat → Int32 := fun c => if O c = m then H c else V c
theorem sd_flO_t (h : O b = m) : sd_flO m O b = 3 := if_pos h
theorem sd_flO_f (h : ¬ O b = m) : sd_flO m O b = O b := if_neg h
theorem sd_flH_t (h : O b = m) : sd_flH m H V O b = V b := if_pos h
theorem sd_flH_f (h : ¬ O b = m) : sd_flH m H V O b = H b := if_neg h
theorem sd_loV_t (h : O b = m) : sd_loV m H V O b = H b := if_pos h
theorem sd_loV_f (h : ¬ O b = m) : sd_loV m H V O b = V b := if_neg h
theorem sd_flO_ne (hm : m < 3) : ¬ sd_flO m O b = m := by
  by_cases h : O b = m
  · rw [sd_flO_t h]; omega
  · rw [sd_flO_f h]; exact h
theorem sd_flO_iff (hn : n ≠ m) (hn3 : n < 3) : sd_flO m O b = n ↔ O b = n := by
  by_cases h : O b = m
  · rw [sd_flO_t h, h]; omega
  · rw [sd_flO_f h]
/-- the journal is brought home -/
theorem sd_K_home (h : sd_K R U H V O a1 a2 a3 a4 a5 a8 a9 a10 a11 a12) (hn : n < 3) (hc : ∀ i, i < 8 → a11 (n * 8 + i) = 0)
    (h2t : ∀ b, b < 16 → O b = n → a2' b = V b) (h2f : ∀ b, b < 16 → ¬ O b = n → a2' b = a2 b) (h3 : a3' n = 0) (h3' : ∀ m, m < 3 → m ≠ n → a3' m = a3 m) :
    sd_K R U (sd_flH n H V O) V (sd_flO n O) a1 a2' a3' a4 a5 a8 a9 a10 a11 a12 := by
  obtain ⟨hR, k1, k2, kO, kL, kJ, kC, kh⟩ := h
  refine ⟨hR, k1, fun b hb => ?_, fun b hb => ?_, fun m b hm hb z => ?_, fun m hm => ?_, fun m hm => ?_, kh⟩
  · by_cases e : O b = n
    · rw [h2t b hb e, sd_flH_t e]
    · rw [h2f b hb e, sd_flH_f e, k2 b hb]
  · have q := kO b hb
    by_cases e : O b = n
    · rw [sd_flO_t e, sd_flH_t e]; exact ⟨by omega, fun _ => rfl⟩
    · rw [sd_flO_f e, sd_flH_f e]; exact q
  · obtain ⟨q1, q2⟩ := kL m b hm hb z
    refine ⟨fun w => ?_, q2⟩
    by_cases e : m = n
    · rw [e] at w; exact sd_flO_ne hn w
    · exact q1 ((sd_flO_iff e hm).mp w)
  · by_cases e : m = n
    · rw [e]; exact sd_JN_0 h3 (fun b _ => sd_flO_ne hn)
    · exact sd_JN_fr (kJ m hm) (h3' m hm e) (fun _ _ => ⟨rfl, rfl⟩) (fun b _ => sd_flO_iff e hm) (fun _ _ _ => Or.inl rfl) (fun _ _ z => z)
  · refine sd_CN_fr (kC m hm) (fun _ _ => ⟨rfl, rfl, rfl⟩) (fun b i hb hi e9 z => ⟨rfl, ?_⟩)
    by_cases e : O b = n
    · rw [sd_flO_t e]
      rcases z with z | z
      · have em : m = n := by omega
        rw [em]; exact Or.inr ⟨rfl, hc i hi⟩
      · omega
    · rw [sd_flO_f e]; exact z
/-- a node dies: its memory and its journal are gone -/
theorem sd_K_die (h : sd_K R U H V O a1 a2 a3 a4 a5 a8 a9 a10 a11 a12) (hn : n < 3)
    (h3 : a3' n = 0) (h3' : ∀ m, m < 3 → m ≠ n → a3' m = a3 m)
    (h8' : ∀ m b, m < 3 → b < 16 → m ≠ n → a8' (m * 16 + b) = a8 (m * 16 + b))
    (h9 : ∀ i, i < 8 → a9' (n * 8 + i) = -1 ∧ a11' (n * 8 + i) = 0) (h9' : ∀ m i, m < 3 → i < 8 → m ≠ n → a9' (m * 8 + i) = a9 (m * 8 + i) ∧ a11' (m * 8 + i) = a11 (m * 8 + i)) :
    sd_K R (upd U n 0) H (sd_loV n H V O) (sd_flO n O) (upd a1 n 0) a2 a3' a4 a5 a8' a9' a10 a11' a12 := by
  obtain ⟨hR, k1, k2, kO, kL, kJ, kC, kh⟩ := h
  refine ⟨hR, fun m hm => ?_, k2, fun b hb => ?_, fun m b hm hb z => ?_, fun m hm => ?_, fun m hm => ?_, kh⟩
  · by_cases e : m = n
    · rw [e, pk_us, pk_us]
    · rw [pk_un e, pk_un e, k1 m hm]
  · have q := kO b hb
    by_cases e : O b = n
    · rw [sd_flO_t e, sd_loV_t e]; exact ⟨by omega, fun _ => rfl⟩
    · rw [sd_flO_f e, sd_loV_f e]; exact q
  · by_cases e : m = n
    · rw [e]
      exact ⟨sd_flO_ne hn, fun i hi w => sd_m1 (by omega) ((h9 i hi).1.symm.trans w)⟩
    · rw [h8' m b hm hb e] at z
      obtain ⟨q1, q2⟩ := kL m b hm hb z
      exact ⟨fun w => q1 ((sd_flO_iff e hm).mp w), fun i hi w => q2 i hi ((h9' m i hm hi e).1.symm.trans w)⟩
  · by_cases e : m = n
    · rw [e]; exact sd_JN_0 h3 (fun b _ => sd_flO_ne hn)
    · exact sd_JN_fr (kJ m hm) (h3' m hm e) (fun _ _ => ⟨rfl, rfl⟩) (fun b _ => sd_flO_iff e hm) (fun b _ w => Or.inl (sd_loV_f (by omega))) (fun _ _ z => sd_dc_fr hR.2 (fun i hi => h9' m i hm hi e) z)
  · by_cases e : m = n
    · rw [e]
      exact ⟨fun i hi => Or.inl (h9 i hi), fun i j hi hj w ne => absurd (h9 i hi).1 ne⟩
    · refine sd_CN_fr (kC m hm) (fun i hi => ⟨(h9' m i hm hi e).1, rfl, (h9' m i hm hi e).2⟩) (fun b i hb hi e9 z => ?_)
      have eb : ¬ O b = n := by omega
      exact ⟨sd_loV_f eb, by rw [sd_flO_f eb]; exact z⟩
/-- a cell is cleaned or emptied, its content being in the journal if it was newer -/
theorem sd_K_cell (h : sd_K R U H V O a1 a2 a3 a4 a5 a8 a9 a10 a11 a12) (hn : n < 3) (hi : i < 8) (hb : b < 16) (e9 : a9 (n * 8 + i) = nI b)
    (h3 : ∀ m, m ≠ n → a3' m = a3 m) (h45 : ∀ m j, m < 3 → m ≠ n → j < 16 → a4' (m * 16 + j) = a4 (m * 16 + j) ∧ a5' (m * 16 + j) = a5 (m * 16 + j))
    (hJ : ∀ D' : Nat → Prop, (∀ b', b' < 16 → b' ≠ b → sd_dc R a9 a11 n b' → D' b') → sd_JN V O D' a3' a4' a5' n)
    (h9 : ∀ k, k ≠ n * 8 + i → a9' k = a9 k) (h9' : a9' (n * 8 + i) = nI b ∨ a9' (n * 8 + i) = -1)
    (h11 : ∀ k, k ≠ n * 8 + i → a11' k = a11 k) (h11' : a11' (n * 8 + i) = 0) :
    sd_K R U H V O a1 a2 a3' a4' a5' a8 a9' a10 a11' a12 := by
  obtain ⟨hR, k1, k2, kO, kL, kJ, kC, kh⟩ := h
  refine ⟨hR, k1, k2, kO, fun m b' hm hb' z => ?_, fun m hm => ?_, fun m hm => ?_, kh⟩
  · obtain ⟨z1, z2⟩ := kL m b' hm hb' z
    refine ⟨z1, fun j hj e => ?_⟩
    by_cases ek : m * 8 + j = n * 8 + i
    · rw [ek] at e
      rcases h9' with q | q
      · exact z2 j hj (by rw [ek, e9, ← q, e])
      · exact sd_m1 (by omega) (q.symm.trans e)
    · rw [h9 _ ek] at e
      exact z2 j hj e
  · by_cases em : m = n
    · rw [em]
      refine hJ _ (fun b' hb' hne ⟨j, hj, q9, q11⟩ => ⟨j, hj, ?_, ?_⟩)
      · by_cases ej : j = i
        · rw [ej, e9] at q9; exact absurd (sd_inj hb hb' q9).symm hne
        · rw [h9 _ (by omega)]; exact q9
      · by_cases ej : j = i
        · rw [ej, e9] at q9; exact absurd (sd_inj hb hb' q9).symm hne
        · rw [h11 _ (by omega)]; exact q11
    · exact sd_JN_fr (kJ m hm) (h3 m em) (fun j hj => h45 m j hm em hj) (fun _ _ => Iff.rfl) (fun _ _ _ => Or.inl rfl)
        (fun _ _ z => sd_dc_fr hR.2 (fun j hj => ⟨h9 _ (by omega), h11 _ (by omega)⟩) z)
  · by_cases em : m = n
    · rw [em]
      obtain ⟨c1, c2⟩ := kC n hn
      have key : ∀ j, j < 8 → ¬ a9' (n * 8 + j) = -1 → a9' (n * 8 + j) = a9 (n * 8 + j) := by
        intro j hj ne
        by_cases ej : j = i
        · rw [ej] at ne ⊢
          rcases h9' with q | q
          · exact q.trans e9.symm
          · exact absurd q ne
        · exact h9 _ (by omega)
      refine ⟨fun j hj => ?_, fun j1 j2 hj1 hj2 e ne => ?_⟩
      · by_cases ej : j = i
        · rw [ej]
          rcases h9' with q | q
          · rcases c1 i hi with z | ⟨z1, b'', hb'', z9, z10, zo⟩
            · exact absurd (z.1.symm.trans e9) (sd_m1 (by omega))
            · refine Or.inr ⟨z1, b'', hb'', q.trans (e9.symm.trans z9), z10, ?_⟩
              rcases zo with zo | zo
              · exact Or.inl zo
              · exact Or.inr ⟨zo.1, h11'⟩
          · exact Or.inl ⟨q, h11'⟩
        · rw [h9 _ (by omega), h11 _ (by omega)]
          exact c1 j hj
      · have q1 := key j1 hj1 ne
        have q2 := key j2 hj2 (fun w => ne (e.trans w))
        exact c2 j1 j2 hj1 hj2 (by rw [← q1, ← q2, e]) (fun w => ne (q1.trans w))
    · exact sd_CN_fr (kC m hm) (fun j hj => ⟨h9 _ (by omega), rfl, h11 _ (by omega)⟩) (fun _ _ _ _ _ z => ⟨rfl, z⟩)
/-- a clean cell is emptied -/
theorem sd_K_drop (h : sd_K R U H V O a1 a2 a3 a4 a5 a8 a9 a10 a11 a12) (hn : n < 3) (hi : i < 8) (hb : b < 16) (e9 : a9 (n * 8 + i) = nI b) (e11 : a11 (n * 8 + i) = 0) :
    sd_K R U H V O a1 a2 a3 a4 a5 a8 (upd a9 (n * 8 + i) (-1)) a10 (upd a11 (n * 8 + i) 0) a12 := by
  refine sd_K_cell h hn hi hb e9 (fun _ _ => rfl) (fun _ _ _ _ _ => ⟨rfl, rfl⟩) (fun D' hD => ?_) (fun k hk => pk_un hk) (Or.inr pk_us) (fun k hk => pk_un hk) pk_us
  obtain ⟨hR, k1, k2, kO, kL, kJ, kC, kh⟩ := h
  refine sd_JN_fr (kJ n hn) rfl (fun _ _ => ⟨rfl, rfl⟩) (fun _ _ => Iff.rfl) (fun _ _ _ => Or.inl rfl) (fun b' hb' z => hD b' hb' ?_ z)
  intro eb
  obtain ⟨j, hj, q9, q11⟩ := z
  have ej := (kC n hn).2 i j hi (by omega) (by rw [e9, q9, eb]) (fun w => sd_m1 (by omega) (w.symm.trans e9))
  rw [← ej] at q11
  exact q11 e11
end
end
section
/-! PART 3: more steps of the invariant -/
section
variable {R n m b i : Nat} {U H V : Nat → Int32} {O : Nat → Nat} {x v : Int32}
variable {a1 a2 a3 a4 a5 a8 a9 a10 a11 a12 a8' : Nat → Int32}
theorem sd_K_free (h : sd_K R U H V O a1 a2 a3 a4 a5 a8 a9 a10 a11 a12) (hn : n < 3) (hi : i < 8) (e9 : a9 (n * 8 + i) = -1) : a11 (n * 8 + i) = 0 := by
  obtain ⟨hR, k1, k2, kO, kL, kJ, kC, kh⟩ := h
  rcases (kC n hn).1 i hi with z | ⟨_, b, hb, z, _⟩
  · exact z.2
  · exact absurd (e9.symm.trans z) (sd_m1 (by omega))
/-- a block is brought into a free cell -/
theorem sd_K_in (h : sd_K R U H V O a1 a2 a3 a4 a5 a8 a9 a10 a11 a12) (hn : n < 3) (hi : i < R) (hb : b < 16) (e9 : a9 (n * 8 + i) = -1)
    (hne : ∀ j, j < 8 → ¬ a9 (n * 8 + j) = nI b) (ho : O b = n ∨ O b = 3) (hl : ¬ a8 (n * 16 + b) = 0) :
    sd_K R U H V O a1 a2 a3 a4 a5 a8 (upd a9 (n * 8 + i) (nI b)) (upd a10 (n * 8 + i) (V b)) a11 a12 := by
  have e11 := sd_K_free h hn (by have := h.1; omega) e9
  obtain ⟨hR, k1, k2, kO, kL, kJ, kC, kh⟩ := h
  refine ⟨hR, k1, k2, kO, fun m b' hm hb' z => ?_, fun m hm => ?_, fun m hm => ?_, kh⟩
  · obtain ⟨z1, z2⟩ := kL m b' hm hb' z
    refine ⟨z1, fun j hj e => ?_⟩
    by_cases ek : m * 8 + j = n * 8 + i
    · rw [ek, pk_us] at e
      have em : m = n := by omega
      rw [em, ← sd_inj hb hb' e] at z
      exact hl z
    · rw [pk_un ek] at e
      exact z2 j hj e
  · refine sd_JN_fr (kJ m hm) rfl (fun _ _ => ⟨rfl, rfl⟩) (fun _ _ => Iff.rfl) (fun _ _ _ => Or.inl rfl) (fun b' _ ⟨j, hj, q9, q11⟩ => ⟨j, hj, ?_, q11⟩)
    by_cases ek : m * 8 + j = n * 8 + i
    · rw [ek] at q11; exact absurd e11 q11
    · rw [pk_un ek]; exact q9
  · by_cases em : m = n
    · rw [em]
      obtain ⟨c1, c2⟩ := kC n hn
      refine ⟨fun j hj => ?_, fun j1 j2 hj1 hj2 e ne => ?_⟩
      · by_cases ej : j = i
        · rw [ej, pk_us, pk_us]
          refine Or.inr ⟨hi, b, hb, rfl, rfl, ?_⟩
          rcases ho with ho | ho
          · exact Or.inl ho
          · exact Or.inr ⟨ho, e11⟩
        · rw [pk_un (by omega), pk_un (by omega)]
          exact c1 j hj
      · by_cases ej1 : j1 = i
        · by_cases ej2 : j2 = i
          · omega
          · rw [ej1, pk_us, pk_un (by omega)] at e
            exact absurd e.symm (hne j2 hj2)
        · by_cases ej2 : j2 = i
          · rw [ej2, pk_us, pk_un (by omega)] at e
            exact absurd e (hne j1 hj1)
          · rw [pk_un (by omega), pk_un (by omega)] at e
            rw [pk_un (by omega)] at ne
            exact c2 j1 j2 hj1 hj2 e ne
    · exact sd_CN_fr (kC m hm) (fun j hj => ⟨pk_un (by omega), pk_un (by omega), rfl⟩) (fun _ _ _ _ _ z => ⟨rfl, z⟩)
/-- a write into a cell -/
theorem sd_K_wr (h : sd_K R U H V O a1 a2 a3 a4 a5 a8 a9 a10 a11 a12) (hn : n < 3) (hi : i < R) (hb : b < 16) (e9 : a9 (n * 8 + i) = nI b)
    (ho : O b = n ∨ O b = 3) (hl : ∀ m, m < 3 → m ≠ n → a8 (m * 16 + b) = 0) :
    sd_K R U H (upd V b v) (sd_up O b n) a1 a2 a3 a4 a5 a8 a9 (upd a10 (n * 8 + i) v) (upd a11 (n * 8 + i) 1) a12 := by
  obtain ⟨hR, k1, k2, kO, kL, kJ, kC, kh⟩ := h
  have hi8 : i < 8 := by omega
  have one : ¬ (1 : Int32) = 0 := by decide
  have dn : sd_dc R a9 (upd a11 (n * 8 + i) 1) n b := ⟨i, hi, e9, by rw [pk_us]; exact one⟩
  have dk : ∀ m b', sd_dc R a9 a11 m b' → sd_dc R a9 (upd a11 (n * 8 + i) 1) m b' := by
    intro m b' ⟨j, hj, q9, q11⟩
    refine ⟨j, hj, q9, ?_⟩
    by_cases ek : m * 8 + j = n * 8 + i
    · rw [ek, pk_us]; exact one
    · rw [pk_un ek]; exact q11
  refine ⟨hR, k1, k2, fun b' hb' => ?_, fun m b' hm hb' z => ?_, fun m hm => ?_, fun m hm => ?_, kh⟩
  · by_cases e : b' = b
    · rw [e, sd_up_s]; exact ⟨by omega, fun w => absurd w (by omega)⟩
    · rw [sd_up_n e, pk_un e]; exact kO b' hb'
  · obtain ⟨z1, z2⟩ := kL m b' hm hb' z
    refine ⟨?_, z2⟩
    by_cases e : b' = b
    · rw [e, sd_up_s]
      intro w
      rw [← w, e] at z2
      exact z2 i hi8 e9
    · rw [sd_up_n e]; exact z1
  · by_cases em : m = n
    · rw [em]
      obtain ⟨c, hc, e3, h1, h2, h4⟩ := kJ n hn
      refine ⟨c, hc, e3, fun j hj => ?_, h2, fun b' hb' w => ?_⟩
      · obtain ⟨b', hb', q4, qo, qv⟩ := h1 j hj
        refine ⟨b', hb', q4, ?_, ?_⟩
        · by_cases e : b' = b
          · rw [e, sd_up_s]
          · rw [sd_up_n e]; exact qo
        · by_cases e : b' = b
          · rw [e]; exact Or.inr dn
          · rw [pk_un e]
            rcases qv with qv | qv
            · exact Or.inl qv
            · exact Or.inr (dk n b' qv)
      · by_cases e : b' = b
        · rw [e]; exact Or.inr dn
        · rw [sd_up_n e] at w
          rcases h4 b' hb' w with q | q
          · exact Or.inl q
          · exact Or.inr (dk n b' q)
    · have nb : ¬ O b = m := by omega
      refine sd_JN_fr (kJ m hm) rfl (fun _ _ => ⟨rfl, rfl⟩) (fun b' _ => ?_) (fun b' _ w => Or.inl ?_) (fun b' _ z => dk m b' z)
      · by_cases e : b' = b
        · rw [e, sd_up_s]
          exact ⟨fun w => absurd w.symm em, fun w => absurd w nb⟩
        · rw [sd_up_n e]
      · exact pk_un (fun e => nb (by rw [← e]; exact w))
  · by_cases em : m = n
    · rw [em]
      obtain ⟨c1, c2⟩ := kC n hn
      refine ⟨fun j hj => ?_, c2⟩
      by_cases ej : j = i
      · rw [ej, pk_us, pk_us]
        exact Or.inr ⟨hi, b, hb, e9, pk_us.symm, Or.inl sd_up_s⟩
      · rw [pk_un (show n * 8 + j ≠ n * 8 + i by omega), pk_un (show n * 8 + j ≠ n * 8 + i by omega)]
        rcases c1 j hj with z | ⟨z1, b', hb', z9, z10, zo⟩
        · exact Or.inl z
        · have e : ¬ b' = b := by
            intro e
            rw [e] at z9
            exact ej (c2 j i hj hi8 (z9.trans e9.symm) (fun w => sd_m1 (by omega) (w.symm.trans z9)))
          refine Or.inr ⟨z1, b', hb', z9, ?_, ?_⟩
          · rw [pk_un e]; exact z10
          · rw [sd_up_n e]; exact zo
    · have zl := (kL m b hm hb (hl m hm em)).2
      refine sd_CN_fr (kC m hm) (fun j hj => ⟨rfl, pk_un (by omega), pk_un (by omega)⟩) (fun b' j _ hj q z => ?_)
      have e : ¬ b' = b := by
        intro e
        rw [e] at q
        exact zl j hj q
      exact ⟨pk_un e, by rw [sd_up_n e]; exact z⟩
/-- locks change -/
theorem sd_K_lk (h : sd_K R U H V O a1 a2 a3 a4 a5 a8 a9 a10 a11 a12)
    (h8 : ∀ m b, m < 3 → b < 16 → a8' (m * 16 + b) = 0 → a8 (m * 16 + b) = 0 ∨ (¬ O b = m ∧ ∀ i, i < 8 → ¬ a9 (m * 8 + i) = nI b)) :
    sd_K R U H V O a1 a2 a3 a4 a5 a8' a9 a10 a11 a12 := by
  obtain ⟨hR, k1, k2, kO, kL, kJ, kC, kh⟩ := h
  refine ⟨hR, k1, k2, kO, fun m b hm hb z => ?_, kJ, kC, kh⟩
  rcases h8 m b hm hb z with q | q
  · exact kL m b hm hb q
  · exact q
theorem sd_K_hand {h' : Nat} (h : sd_K R U H V O a1 a2 a3 a4 a5 a8 a9 a10 a11 a12) (hh : h' < R) : sd_K R U H V O a1 a2 a3 a4 a5 a8 a9 a10 a11 (upd a12 n (nI h')) := by
  obtain ⟨hR, k1, k2, kO, kL, kJ, kC, kh⟩ := h
  refine ⟨hR, k1, k2, kO, kL, kJ, kC, fun m hm => ?_⟩
  by_cases e : m = n
  · exact ⟨h', hh, by rw [e, pk_us]⟩
  · rw [pk_un e]; exact kh m hm
theorem sd_K_run (h : sd_K R U H V O a1 a2 a3 a4 a5 a8 a9 a10 a11 a12) : sd_K R (upd U n x) H V O (upd a1 n x) a2 a3 a4 a5 a8 a9 a10 a11 a12 := by
  obtain ⟨hR, k1, k2, kO, kL, kJ, kC, kh⟩ := h
  refine ⟨hR, fun m hm => ?_, k2, kO, kL, kJ, kC, kh⟩
  by_cases e : m = n
  · rw [e, pk_us, pk_us]
  · rw [pk_un e, pk_un e]; exact k1 m hm
end
end
section
/-! PART 4: walks of the small methods -/
section
variable {R n c k : Nat} {f0 x : Int32} {a1 a2 a3 a4 a5 a6 a7 a8 a9 a10 a11 a12 : Nat → Int32}
theorem sd_journaled {post : Int32 → Prop} (hn : n < 3) (hc : c ≤ 16) (h3 : a3 n = nI c)
    (H0 : (∀ i, i < c → ¬ a4 (n * 16 + i) = x) → post (-1)) (H1 : ∀ i, i < c → a4 (n * 16 + i) = x → post (nI (n * 16 + i))) :
    wpX_journaled post (f0, a1, a2, a3, a4, a5, a6, a7, a8, a9, a10, a11, a12) (nI n) x := by
  have e1 : nI n * 16 + a3 (nI n).toNatClampNeg = nI (n * 16 + c) := by
    rw [nI_clamp (by omega), h3, sd_mul n 16 16 rfl, nI_add]
  unfold wpX_journaled
  dsimp only
  intro x3 ex
  rw [ex, sd_mul n 16 16 rfl]
  refine pk_loop (σ := Unit) (fun f i _ => wX_journaled_5 post (nI n) x f0 a1 a2 a3 a4 a5 a6 a7 a8 a9 a10 a11 a12 f (nI i)) (fun i _ => n * 16 ≤ i ∧ ∀ j, n * 16 + j < i → ¬ a4 (n * 16 + j) = x) (n * 16 + c) (n * 16) () (by omega) ⟨by omega, fun j hj => absurd hj (by omega)⟩ (fun f _ hI => ?_) (fun f i _ hi hI hw => ?_)
  · exact ⟨pk_in n 3 hn, pk_le (n * 16 + c) (n * 16 + c) (fun _ => H0 (fun j hj => hI.2 j (by omega))) (fun z => absurd z (by omega)) e1⟩
  · obtain ⟨hl, hI⟩ := hI
    obtain ⟨j, rfl⟩ : ∃ j, i = n * 16 + j := ⟨i - n * 16, by omega⟩
    refine ⟨pk_in n 3 hn, pk_le (n * 16 + c) (n * 16 + j) (fun z => absurd z (by omega)) (fun _ => ⟨pk_in (n * 16 + j) 48 (by omega), ?_⟩) e1⟩
    rw [nI_clamp (n := n * 16 + j) (by omega)]
    refine br_c (fun e => H1 j (by omega) e) (fun e => nm_r (nI_1 _) (hw () ⟨by omega, fun j' hj' => ?_⟩))
    by_cases ej : j' = j
    · rw [ej]; exact e
    · exact hI j' (by omega)
theorem sd_cached {post : Int32 → Prop} (hn : n < 3) (hR : R ≤ 8)
    (H0 : (∀ i, i < R → ¬ a9 (n * 8 + i) = x) → post (-1)) (H1 : ∀ i, i < R → a9 (n * 8 + i) = x → post (nI (n * 8 + i))) :
    wpX_cached post (nI R, a1, a2, a3, a4, a5, a6, a7, a8, a9, a10, a11, a12) (nI n) x := by
  have e1 : nI n * 8 + nI R = nI (n * 8 + R) := by
    rw [sd_mul n 8 8 rfl, nI_add]
  unfold wpX_cached
  dsimp only
  intro x3 ex
  rw [ex, sd_mul n 8 8 rfl]
  refine pk_loop (σ := Unit) (fun f i _ => wX_cached_5 post (nI n) x (nI R) a1 a2 a3 a4 a5 a6 a7 a8 a9 a10 a11 a12 f (nI i)) (fun i _ => n * 8 ≤ i ∧ ∀ j, n * 8 + j < i → ¬ a9 (n * 8 + j) = x) (n * 8 + R) (n * 8) () (by omega) ⟨by omega, fun j hj => absurd hj (by omega)⟩ (fun f _ hI => ?_) (fun f i _ hi hI hw => ?_)
  · exact pk_le (n * 8 + R) (n * 8 + R) (fun _ => H0 (fun j hj => hI.2 j (by omega))) (fun z => absurd z (by omega)) e1
  · obtain ⟨hl, hI⟩ := hI
    obtain ⟨j, rfl⟩ : ∃ j, i = n * 8 + j := ⟨i - n * 8, by omega⟩
    refine pk_le (n * 8 + R) (n * 8 + j) (fun z => absurd z (by omega)) (fun _ => ⟨pk_in (n * 8 + j) 24 (by omega), ?_⟩) e1
    rw [nI_clamp (n := n * 8 + j) (by omega)]
    refine br_c (fun e => H1 j (by omega) e) (fun e => nm_r (nI_1 _) (hw () ⟨by omega, fun j' hj' => ?_⟩))
    by_cases ej : j' = j
    · rw [ej]; exact e
    · exact hI j' (by omega)
def sd_sm (a4 a5 : Nat → Int32) (p : Nat) (x : Int32) : Nat → Int32
  | 0 => x
  | k + 1 => (sd_sm a4 a5 p x k * 31 + a4 (p + k)) * 31 + a5 (p + k)
theorem sd_sumOf {post : Int32 → Prop} (hn : n < 3) (hc : c ≤ 16) (h3 : a3 n = nI c) (H : post (sd_sm a4 a5 (n * 16) (7 + nI c) c)) :
    wpX_sumOf post (f0, a1, a2, a3, a4, a5, a6, a7, a8, a9, a10, a11, a12) (nI n) := by
  have e1 : nI n * 16 + a3 (nI n).toNatClampNeg = nI (n * 16 + c) := by
    rw [nI_clamp (by omega), h3, sd_mul n 16 16 rfl, nI_add]
  unfold wpX_sumOf
  dsimp only
  refine ⟨pk_in n 3 hn, ?_⟩
  intro x2 ex2 x3 ex
  rw [ex, ex2, sd_mul n 16 16 rfl, nI_clamp (n := n) (by omega), h3]
  refine pk_loop (σ := Int32) (fun f i s => wX_sumOf_15 post (nI n) f0 a1 a2 a3 a4 a5 a6 a7 a8 a9 a10 a11 a12 f s (nI i)) (fun i s => n * 16 ≤ i ∧ s = sd_sm a4 a5 (n * 16) (7 + nI c) (i - n * 16)) (n * 16 + c) (n * 16) _ (by omega) ⟨by omega, ?_⟩ (fun f s hI => ?_) (fun f i s hi hI hw => ?_)
  · rw [Nat.sub_self]; rfl
  · obtain ⟨hl, hI⟩ := hI
    rw [show n * 16 + c - n * 16 = c by omega] at hI
    refine ⟨pk_in n 3 hn, pk_le (n * 16 + c) (n * 16 + c) (fun _ => ?_) (fun z => absurd z (by omega)) e1⟩
    rw [hI]; exact H
  · obtain ⟨hl, hI⟩ := hI
    obtain ⟨j, rfl⟩ : ∃ j, i = n * 16 + j := ⟨i - n * 16, by omega⟩
    rw [show n * 16 + j - n * 16 = j by omega] at hI
    refine ⟨pk_in n 3 hn, pk_le (n * 16 + c) (n * 16 + j) (fun z => absurd z (by omega)) (fun _ => ⟨pk_in (n * 16 + j) 48 (by omega), nm_e ⟨pk_in (n * 16 + j) 48 (by omega), nm_e (nm_r (nI_1 _) (hw _ ⟨by omega, ?_⟩))⟩⟩) e1⟩
    rw [nI_clamp (n := n * 16 + j) (by omega), hI, show n * 16 + j + 1 - n * 16 = j + 1 by omega]
    rfl
theorem sd_whole0 {post : Int32 → Prop} (hn : n < 3) (h7 : a7 n = 0) (H : post 0) : wpX_whole post (f0, a1, a2, a3, a4, a5, a6, a7, a8, a9, a10, a11, a12) (nI n) := by
  unfold wpX_whole
  dsimp only
  rw [nI_clamp (n := n) (by omega)]
  exact ⟨pk_in n 3 hn, br_t h7 H⟩
theorem sd_whole1 {post : Int32 → Prop} (hn : n < 3) (hc : c ≤ 16) (h3 : a3 n = nI c) (h7 : ¬ a7 n = 0) (h6 : a6 n = sd_sm a4 a5 (n * 16) (7 + nI c) c) (H : post 1) :
    wpX_whole post (f0, a1, a2, a3, a4, a5, a6, a7, a8, a9, a10, a11, a12) (nI n) := by
  unfold wpX_whole
  dsimp only
  rw [nI_clamp (n := n) (by omega)]
  exact ⟨pk_in n 3 hn, br_f h7 (sd_sumOf hn hc h3 ⟨pk_in n 3 hn, br_t h6.symm H⟩)⟩
theorem sd_emptyJournal {post : St1 → Prop} (hn : n < 3) (H : post (f0, a1, a2, upd a3 n 0, a4, a5, a6, upd a7 n 0, a8, a9, a10, a11, a12)) : wpX_emptyJournal post (f0, a1, a2, a3, a4, a5, a6, a7, a8, a9, a10, a11, a12) (nI n) := by
  unfold wpX_emptyJournal
  dsimp only
  rw [nI_clamp (n := n) (by omega)]
  exact ⟨pk_in n 3 hn, nm_e ⟨pk_in n 3 hn, nm_e H⟩⟩
theorem sd_dropCell {post : St1 → Prop} (hk : k < 24) (H : post (f0, a1, a2, a3, a4, a5, a6, a7, a8, upd a9 k (-1), a10, upd a11 k 0, a12)) : wpX_dropCell post (f0, a1, a2, a3, a4, a5, a6, a7, a8, a9, a10, a11, a12) (nI k) := by
  unfold wpX_dropCell
  dsimp only
  rw [nI_clamp (n := k) (by omega)]
  exact ⟨pk_in k 24 hk, nm_e ⟨pk_in k 24 hk, nm_e H⟩⟩
theorem sd_markJournal {post : St1 → Prop} (hn : n < 3) (hc : c ≤ 16) (h3 : a3 n = nI c) (H : post (f0, a1, a2, a3, a4, a5, upd a6 n (sd_sm a4 a5 (n * 16) (7 + nI c) c), upd a7 n 1, a8, a9, a10, a11, a12)) :
    wpX_markJournal post (f0, a1, a2, a3, a4, a5, a6, a7, a8, a9, a10, a11, a12) (nI n) := by
  unfold wpX_markJournal
  dsimp only
  rw [nI_clamp (n := n) (by omega)]
  exact sd_sumOf hn hc h3 ⟨pk_in n 3 hn, nm_e ⟨pk_in n 3 hn, nm_e H⟩⟩
def sd_bh (a4 a5 : Nat → Int32) (p : Nat) (f : Nat → Int32) : Nat → Nat → Int32
  | 0 => f
  | k + 1 => upd (sd_bh a4 a5 p f k) (a4 (p + k)).toNatClampNeg (a5 (p + k))
theorem sd_bringHome {post : St1 → Prop} (hn : n < 3) (hc : c ≤ 16) (h3 : a3 n = nI c) (h4 : ∀ i, i < c → ∃ b, b < 16 ∧ a4 (n * 16 + i) = nI b)
    (H : post (f0, a1, sd_bh a4 a5 (n * 16) a2 c, upd a3 n 0, a4, a5, a6, upd a7 n 0, a8, a9, a10, a11, a12)) :
    wpX_bringHome post (f0, a1, a2, a3, a4, a5, a6, a7, a8, a9, a10, a11, a12) (nI n) := by
  have e1 : nI n * 16 + a3 (nI n).toNatClampNeg = nI (n * 16 + c) := by
    rw [nI_clamp (by omega), h3, sd_mul n 16 16 rfl, nI_add]
  unfold wpX_bringHome
  dsimp only
  intro x3 ex
  rw [ex, sd_mul n 16 16 rfl]
  refine pk_loop (σ := Nat → Int32) (fun f i s => wX_bringHome_5 post (nI n) f0 f (nI i) a1 s a3 a4 a5 a6 a7 a8 a9 a10 a11 a12) (fun i s => n * 16 ≤ i ∧ s = sd_bh a4 a5 (n * 16) a2 (i - n * 16)) (n * 16 + c) (n * 16) _ (by omega) ⟨by omega, ?_⟩ (fun f s hI => ?_) (fun f i s hi hI hw => ?_)
  · rw [Nat.sub_self]; rfl
  · obtain ⟨hl, hI⟩ := hI
    rw [show n * 16 + c - n * 16 = c by omega] at hI
    refine ⟨pk_in n 3 hn, pk_le (n * 16 + c) (n * 16 + c) (fun _ => ?_) (fun z => absurd z (by omega)) e1⟩
    refine sd_emptyJournal hn ?_
    rw [hI]; exact H
  · obtain ⟨hl, hI⟩ := hI
    obtain ⟨j, rfl⟩ : ∃ j, i = n * 16 + j := ⟨i - n * 16, by omega⟩
    rw [show n * 16 + j - n * 16 = j by omega] at hI
    obtain ⟨b, hb, e4⟩ := h4 j (by omega)
    refine ⟨pk_in n 3 hn, pk_le (n * 16 + c) (n * 16 + j) (fun z => absurd z (by omega)) (fun _ => ⟨pk_in (n * 16 + j) 48 (by omega), pk_in (n * 16 + j) 48 (by omega), ?_, nm_e (nm_r (nI_1 _) (hw _ ⟨by omega, ?_⟩))⟩) e1⟩
    · rw [nI_clamp (n := n * 16 + j) (by omega), e4]
      exact pk_in b 16 hb
    · rw [nI_clamp (n := n * 16 + j) (by omega), hI, show n * 16 + j + 1 - n * 16 = j + 1 by omega]
      rfl
theorem sd_bh_eq {V : Nat → Int32} {p : Nat} {f : Nat → Int32} : ∀ c, (∀ i, i < c → ∃ b, b < 16 ∧ a4 (p + i) = nI b ∧ a5 (p + i) = V b) → ∀ b, b < 16 →
    ((∃ i, i < c ∧ a4 (p + i) = nI b) → sd_bh a4 a5 p f c b = V b) ∧ ((∀ i, i < c → ¬ a4 (p + i) = nI b) → sd_bh a4 a5 p f c b = f b)
  | 0, _, b, _ => ⟨fun ⟨i, hi, _⟩ => absurd hi (by omega), fun _ => rfl⟩
  | c + 1, h, b, hb => by
    obtain ⟨ih1, ih2⟩ := sd_bh_eq c (fun i hi => h i (by omega)) b hb
    obtain ⟨b', hb', e4, e5⟩ := h c (by omega)
    have e : sd_bh a4 a5 p f (c + 1) = upd (sd_bh a4 a5 p f c) b' (V b') := by
      show upd (sd_bh a4 a5 p f c) (a4 (p + c)).toNatClampNeg (a5 (p + c)) = _
      rw [e4, e5, nI_clamp (by omega)]
    rw [e]
    by_cases eb : b = b'
    · rw [← eb, pk_us]
      exact ⟨fun _ => rfl, fun z => absurd (by rw [e4, eb]) (z c (by omega))⟩
    · rw [pk_un eb]
      refine ⟨fun ⟨i, hi, q⟩ => ih1 ⟨i, ?_, q⟩, fun z => ih2 (fun i hi => z i (by omega))⟩
      have ne : i ≠ c := by
        intro ei
        rw [ei, e4] at q
        exact eb (sd_inj hb' hb q).symm
      omega
end
end
section
/-! PART 5: journals, counting, dying -/
noncomputable def sd_cn (O : Nat → Nat) (n : Nat) : Nat := sd_ct (fun b => O b = n) 16
def sd_q (c : Nat) (a4 a9 a11 : Nat → Int32) (n t b : Nat) : Prop :=
  (∃ j, j < c ∧ a4 (n * 16 + j) = nI b) ∨ (∃ j, j < t ∧ a9 (n * 8 + j) = nI b ∧ ¬ a11 (n * 8 + j) = 0)
section
variable {R n c k b : Nat} {f0 x y z : Int32} {U H V : Nat → Int32} {O : Nat → Nat} {D : Nat → Prop} {a1 a2 a3 a4 a5 a6 a7 a8 a9 a10 a11 a12 : Nat → Int32}
theorem sd_wj36 {post : St1 → Prop} (hk : k < 48) (P : post (f0, a1, a2, a3, upd a4 k y, upd a5 k z, a6, a7, a8, a9, a10, a11, a12)) : wX_writeJournal_36 post y z (nI k) f0 a1 a2 a3 a4 a5 a6 a7 a8 a9 a10 a11 a12 := by
  unfold wX_writeJournal_36
  rw [nI_clamp (n := k) (by omega)]
  exact ⟨pk_in k 48 hk, nm_e ⟨pk_in k 48 hk, nm_e P⟩⟩
theorem sd_JN_room (hJ : sd_JN V O D a3 a4 a5 n) (h3 : a3 n = nI c) (hc : c ≤ 16) (hb : b < 16) (hno : ∀ i, i < c → ¬ a4 (n * 16 + i) = nI b) : c < 16 := by
  obtain ⟨c', hc', e3, h1, h2, h4⟩ := hJ
  have ec : c' = c := (nI_eq (by omega) (by omega)).mp (e3.symm.trans h3)
  rw [ec] at h1 h2
  have q1 : sd_ct (fun b => ∃ i, i < c ∧ a4 (n * 16 + i) = nI b) 16 = c :=
    sd_ct_j (f := fun i => a4 (n * 16 + i)) c (fun i hi => by obtain ⟨b', hb', e, _⟩ := h1 i hi; exact ⟨b', hb', e⟩) h2
  have q2 := sd_ct_add (p := fun b => ∃ i, i < c ∧ a4 (n * 16 + i) = nI b) (q := fun b' => b' = b ∨ ∃ i, i < c ∧ a4 (n * 16 + i) = nI b') (b0 := b)
    (fun ⟨i, hi, e⟩ => hno i hi e) (Or.inl rfl) 16 (fun b' _ hne => ⟨fun w => w.elim (fun w => absurd w hne) id, Or.inr⟩) hb
  have q3 := sd_ct_le (fun b' => b' = b ∨ ∃ i, i < c ∧ a4 (n * 16 + i) = nI b') 16
  omega
theorem sd_writeJournal {post : St1 → Prop} (hn : n < 3) (hb : b < 16) (hJ : sd_JN V O D a3 a4 a5 n) (ho : O b = n)
    (P : ∀ a3' a4' a5' : Nat → Int32, (∀ m, m ≠ n → a3' m = a3 m) → (∀ k, (k < n * 16 ∨ n * 16 + 16 ≤ k) → a4' k = a4 k ∧ a5' k = a5 k)
      → (∀ D' : Nat → Prop, (∀ b', b' < 16 → b' ≠ b → D b' → D' b') → sd_JN V O D' a3' a4' a5' n) → post (f0, a1, a2, a3', a4', a5', a6, a7, a8, a9, a10, a11, a12)) :
    wpX_writeJournal post (f0, a1, a2, a3, a4, a5, a6, a7, a8, a9, a10, a11, a12) (nI n) (nI b) (V b) := by
  have hJ' := hJ
  obtain ⟨c, hc, e3, h1, h2, h4⟩ := hJ
  unfold wpX_writeJournal
  dsimp only
  refine sd_journaled hn hc e3 (fun hno => ?_) (fun i hi e => ?_)
  · have hc16 : c < 16 := sd_JN_room hJ' e3 hc hb hno
    have e1 : nI n * 16 + a3 (nI n).toNatClampNeg = nI (n * 16 + c) := by
      rw [nI_clamp (by omega), e3, sd_mul n 16 16 rfl, nI_add]
    refine br_f (by decide) ⟨pk_in n 3 hn, nm_r e1 ⟨pk_in n 3 hn, pk_in n 3 hn, nm_r (e' := upd a3 n (nI (c + 1))) ?_ (sd_wj36 (by omega) (P _ _ _ ?_ ?_ ?_))⟩⟩
    · rw [nI_clamp (by omega), e3, nI_1]
    · intro m hm
      exact pk_un hm
    · intro k hk
      exact ⟨pk_un (by omega), pk_un (by omega)⟩
    · intro D' hD
      refine ⟨c + 1, by omega, pk_us, fun i hi => ?_, fun i j hi hj e => ?_, fun b' hb' ho' => ?_⟩
      · by_cases ei : i = c
        · rw [ei, pk_us, pk_us]
          exact ⟨b, hb, rfl, ho, Or.inl rfl⟩
        · rw [pk_un (show n * 16 + i ≠ n * 16 + c by omega), pk_un (show n * 16 + i ≠ n * 16 + c by omega)]
          obtain ⟨b', hb', q4, qo, qv⟩ := h1 i (by omega)
          refine ⟨b', hb', q4, qo, ?_⟩
          rcases qv with qv | qv
          · exact Or.inl qv
          · exact Or.inr (hD b' hb' (fun w => hno i (by omega) (by rw [q4, w])) qv)
      · by_cases ei : i = c
        · by_cases ej : j = c
          · omega
          · rw [ei, pk_us, pk_un (show n * 16 + j ≠ n * 16 + c by omega)] at e
            exact absurd e.symm (hno j (by omega))
        · by_cases ej : j = c
          · rw [ej, pk_us, pk_un (show n * 16 + i ≠ n * 16 + c by omega)] at e
            exact absurd e (hno i (by omega))
          · rw [pk_un (show n * 16 + i ≠ n * 16 + c by omega), pk_un (show n * 16 + j ≠ n * 16 + c by omega)] at e
            exact h2 i j (by omega) (by omega) e
      · by_cases eb : b' = b
        · exact Or.inl ⟨c, by omega, by rw [pk_us, eb]⟩
        · rcases h4 b' hb' ho' with ⟨i, hi, e⟩ | w
          · exact Or.inl ⟨i, by omega, by rw [pk_un (show n * 16 + i ≠ n * 16 + c by omega)]; exact e⟩
          · exact Or.inr (hD b' hb' eb w)
  · refine br_t (nI_pos' (by omega)) (sd_wj36 (by omega) (P _ _ _ (fun _ _ => rfl) ?_ ?_))
    · intro k hk
      exact ⟨pk_un (by omega), pk_un (by omega)⟩
    · have key : ∀ j, upd a4 (n * 16 + i) (nI b) (n * 16 + j) = a4 (n * 16 + j) := by
        intro j
        by_cases ej : j = i
        · rw [ej, pk_us, e]
        · exact pk_un (by omega)
      intro D' hD
      refine ⟨c, hc, e3, fun j hj => ?_, fun i j hi hj e => ?_, fun b' hb' ho' => ?_⟩
      · rw [key j]
        by_cases ej : j = i
        · rw [ej, pk_us]
          exact ⟨b, hb, e, ho, Or.inl rfl⟩
        · rw [pk_un (show n * 16 + j ≠ n * 16 + i by omega)]
          obtain ⟨b', hb', q4, qo, qv⟩ := h1 j (by omega)
          refine ⟨b', hb', q4, qo, ?_⟩
          rcases qv with qv | qv
          · exact Or.inl qv
          · exact Or.inr (hD b' hb' (fun w => ej (h2 j i hj hi (by rw [q4, w, e]))) qv)
      · rw [key i, key j] at e
        exact h2 i j hi hj e
      · by_cases eb : b' = b
        · exact Or.inl ⟨i, hi, by rw [pk_us, eb]⟩
        · rcases h4 b' hb' ho' with ⟨i', hi', e'⟩ | w
          · exact Or.inl ⟨i', hi', by rw [key i']; exact e'⟩
          · exact Or.inr (hD b' hb' eb w)
/-- facts of a cell that holds a block -/
theorem sd_cell {i : Nat} (h : sd_CN R V O a9 a10 a11 n) (hi : i < 8) (hb : b < 16) (e9 : a9 (n * 8 + i) = nI b) :
    i < R ∧ a10 (n * 8 + i) = V b ∧ (O b = n ∨ (O b = 3 ∧ a11 (n * 8 + i) = 0)) := by
  rcases h.1 i hi with w | ⟨w1, b', hb', w9, w10, wo⟩
  · exact absurd (w.1.symm.trans e9) (sd_m1 (by omega))
  · have e : b' = b := sd_inj hb' hb (w9.symm.trans e9)
    rw [e] at w10 wo
    exact ⟨w1, w10, wo⟩
theorem sd_fillJournal {post : St1 → Prop} (hn : n < 3) (h : sd_K R U H V O a1 a2 a3 a4 a5 a8 a9 a10 a11 a12)
    (P : ∀ a3' a4' a5' a11' : Nat → Int32, sd_K R U H V O a1 a2 a3' a4' a5' a8 a9 a10 a11' a12 → (∀ i, i < 8 → a11' (n * 8 + i) = 0) → post (nI R, a1, a2, a3', a4', a5', a6, a7, a8, a9, a10, a11', a12)) :
    wpX_fillJournal post (nI R, a1, a2, a3, a4, a5, a6, a7, a8, a9, a10, a11, a12) (nI n) := by
  have e1 : nI n * 8 + nI R = nI (n * 8 + R) := by
    rw [sd_mul n 8 8 rfl, nI_add]
  have hR := h.1
  unfold wpX_fillJournal
  dsimp only
  intro x3 ex
  rw [ex, sd_mul n 8 8 rfl]
  refine pk_loop (σ := (Nat → Int32) × (Nat → Int32) × (Nat → Int32) × (Nat → Int32)) (fun f i s => wX_fillJournal_5 post (nI n) f (nI i) (nI R) a1 a2 s.1 s.2.1 s.2.2.1 a6 a7 a8 a9 a10 s.2.2.2 a12)
    (fun i s => n * 8 ≤ i ∧ sd_K R U H V O a1 a2 s.1 s.2.1 s.2.2.1 a8 a9 a10 s.2.2.2 a12 ∧ ∀ j, n * 8 + j < i → s.2.2.2 (n * 8 + j) = 0) (n * 8 + R) (n * 8) (a3, a4, a5, a11) (by omega)
    ⟨by omega, h, fun j hj => absurd hj (by omega)⟩ (fun f s hI => ?_) (fun f i s hi hI hw => ?_)
  · obtain ⟨b3, b4, b5, b11⟩ := s
    obtain ⟨hl, hK, hz⟩ := hI
    refine pk_le (n * 8 + R) (n * 8 + R) (fun _ => P b3 b4 b5 b11 hK (fun i hi => ?_)) (fun w => absurd w (by omega)) e1
    by_cases eR : i < R
    · exact hz i (by omega)
    · obtain ⟨_, k1, k2, kO, kL, kJ, kC, kh⟩ := hK
      rcases (kC n hn).1 i hi with w | w
      · exact w.2
      · exact absurd w.1 eR
  · obtain ⟨b3, b4, b5, b11⟩ := s
    obtain ⟨hl, hK, hz⟩ := hI
    obtain ⟨j, rfl⟩ : ∃ j, i = n * 8 + j := ⟨i - n * 8, by omega⟩
    dsimp only at hK hz
    refine pk_le (n * 8 + R) (n * 8 + j) (fun w => absurd w (by omega)) (fun _ => ⟨pk_in (n * 8 + j) 24 (by omega), ?_⟩) e1
    rw [nI_clamp (n := n * 8 + j) (by omega)]
    refine br_c (fun ez => nm_r (nI_1 _) (hw (b3, b4, b5, b11) ⟨by omega, hK, fun j' hj' => ?_⟩)) (fun ez => ⟨pk_in (n * 8 + j) 24 (by omega), pk_in (n * 8 + j) 24 (by omega), ?_⟩)
    · by_cases ej : j' = j
      · rw [ej]; exact ez
      · exact hz j' (by omega)
    · have hK' := hK
      obtain ⟨_, k1, k2, kO, kL, kJ, kC, kh⟩ := hK'
      have hj8 : j < 8 := by omega
      rcases (kC n hn).1 j hj8 with w | ⟨w1, b, hb, w9, w10, wo⟩
      · exact absurd w.2 ez
      · have ho : O b = n := by
          rcases wo with wo | wo
          · exact wo
          · exact absurd wo.2 ez
        rw [w9, w10]
        refine sd_writeJournal hn hb (kJ n hn) ho (fun a3' a4' a5' f3 f45 fJ => ?_)
        refine ⟨pk_in (n * 8 + j) 24 (by omega), nm_e (nm_r (nI_1 _) (hw (a3', a4', a5', upd b11 (n * 8 + j) 0) ⟨by omega, ?_, fun j' hj' => ?_⟩))⟩
        · exact sd_K_cell hK hn hj8 hb w9 f3 (fun m i hm hne hi => f45 _ (by omega)) fJ (fun _ _ => rfl) (Or.inl w9) (fun k hk => pk_un hk) pk_us
        · by_cases ej : j' = j
          · rw [ej]; exact pk_us
          · exact (pk_un (by omega)).trans (hz j' (by omega))
theorem sd_isUnsafe {post : Int32 → Prop} (hn : n < 3) (hb : b < 16) (h : sd_K R U H V O a1 a2 a3 a4 a5 a8 a9 a10 a11 a12)
    (P1 : O b = n → post 1) (P0 : ¬ O b = n → post 0) : wpX_isUnsafe post (nI R, a1, a2, a3, a4, a5, a6, a7, a8, a9, a10, a11, a12) (nI n) (nI b) := by
  obtain ⟨hR, k1, k2, kO, kL, kJ, kC, kh⟩ := h
  obtain ⟨c, hc, e3, h1, h2, h4⟩ := kJ n hn
  unfold wpX_isUnsafe
  dsimp only
  refine sd_journaled hn hc e3 (fun hno => ?_) (fun i hi e => ?_)
  · refine br_t (by decide) (sd_cached hn hR.2 (fun hnc => br_t (by decide) (P0 ?_)) (fun j hj e9 => br_f (nI_pos (by omega)) ⟨pk_in (n * 8 + j) 24 (by omega), ?_⟩))
    · intro ho
      rcases h4 b hb ho with ⟨i, hi, e⟩ | ⟨i, hi, e, _⟩
      · exact hno i hi e
      · exact hnc i hi e
    · rw [nI_clamp (n := n * 8 + j) (by omega)]
      refine br_c (fun ez => P0 ?_) (fun ez => P1 ?_)
      · intro ho
        rcases h4 b hb ho with ⟨i, hi, e⟩ | ⟨i, hi, e, ed⟩
        · exact hno i hi e
        · have ej : i = j := (kC n hn).2 i j (by omega) (by omega) (e.trans e9.symm) (fun w => sd_m1 (by omega) (w.symm.trans e))
          rw [ej] at ed
          exact ed ez
      · rcases (sd_cell (kC n hn) (by omega) hb e9).2.2 with w | w
        · exact w
        · exact absurd w.2 ez
  · refine br_f (nI_pos (by omega)) (P1 ?_)
    obtain ⟨b', hb', q4, qo, _⟩ := h1 i hi
    rw [sd_inj hb hb' (e.symm.trans q4)]
    exact qo
theorem sd_unsafeCount {post : Int32 → Prop} (hn : n < 3) (h : sd_K R U H V O a1 a2 a3 a4 a5 a8 a9 a10 a11 a12)
    (P : post (nI (sd_cn O n))) : wpX_unsafeCount post (nI R, a1, a2, a3, a4, a5, a6, a7, a8, a9, a10, a11, a12) (nI n) := by
  obtain ⟨hR, k1, k2, kO, kL, kJ, kC, kh⟩ := h
  obtain ⟨c, hc, e3, h1, h2, h4⟩ := kJ n hn
  have e1 : nI n * 8 + nI R = nI (n * 8 + R) := by
    rw [sd_mul n 8 8 rfl, nI_add]
  unfold wpX_unsafeCount
  dsimp only
  refine ⟨pk_in n 3 hn, ?_⟩
  intro x2 ex2 x3 ex
  rw [ex, ex2, sd_mul n 8 8 rfl, nI_clamp (n := n) (by omega), e3]
  refine pk_loop (σ := Int32) (fun f i s => wX_unsafeCount_12 post (nI n) (nI R) a1 a2 a3 a4 a5 a6 a7 a8 a9 a10 a11 a12 f s (nI i)) (fun i s => n * 8 ≤ i ∧ s = nI (sd_ct (sd_q c a4 a9 a11 n (i - n * 8)) 16)) (n * 8 + R) (n * 8) _ (by omega) ⟨by omega, ?_⟩ (fun f s hI => ?_) (fun f i s hi hI hw => ?_)
  · rw [Nat.sub_self]
    have q1 : sd_ct (fun b => ∃ i, i < c ∧ a4 (n * 16 + i) = nI b) 16 = c :=
      sd_ct_j (f := fun i => a4 (n * 16 + i)) c (fun i hi => by obtain ⟨b', hb', e, _⟩ := h1 i hi; exact ⟨b', hb', e⟩) h2
    have q2 : sd_ct (sd_q c a4 a9 a11 n 0) 16 = sd_ct (fun b => ∃ i, i < c ∧ a4 (n * 16 + i) = nI b) 16 :=
      sd_ct_congr 16 (fun b _ => ⟨fun w => w.elim id (fun ⟨j, hj, _⟩ => absurd hj (by omega)), Or.inl⟩)
    rw [q2, q1]
  · obtain ⟨hl, hI⟩ := hI
    rw [show n * 8 + R - n * 8 = R by omega] at hI
    refine pk_le (n * 8 + R) (n * 8 + R) (fun _ => ?_) (fun w => absurd w (by omega)) e1
    have q : sd_ct (sd_q c a4 a9 a11 n R) 16 = sd_cn O n := by
      refine sd_ct_congr 16 (fun b hb => ⟨fun w => ?_, fun w => ?_⟩)
      · rcases w with ⟨j, hj, e⟩ | ⟨j, hj, e, ed⟩
        · obtain ⟨b', hb', q4, qo, _⟩ := h1 j hj
          rw [sd_inj hb hb' (e.symm.trans q4)]
          exact qo
        · rcases (sd_cell (kC n hn) (by omega) hb e).2.2 with w | w
          · exact w
          · exact absurd w.2 ed
      · exact h4 b hb w
    rw [hI, q]
    exact P
  · obtain ⟨hl, hI⟩ := hI
    obtain ⟨j, rfl⟩ : ∃ j, i = n * 8 + j := ⟨i - n * 8, by omega⟩
    rw [show n * 8 + j - n * 8 = j by omega] at hI
    have hj8 : j < 8 := by omega
    refine pk_le (n * 8 + R) (n * 8 + j) (fun w => absurd w (by omega)) (fun _ => ⟨pk_in (n * 8 + j) 24 (by omega), ?_⟩) e1
    rw [nI_clamp (n := n * 8 + j) (by omega)]
    have same : (∀ b, b < 16 → a9 (n * 8 + j) = nI b → ¬ a11 (n * 8 + j) = 0 → sd_q c a4 a9 a11 n j b) → s = nI (sd_ct (sd_q c a4 a9 a11 n (n * 8 + j + 1 - n * 8)) 16) := by
      intro hq
      rw [hI, show n * 8 + j + 1 - n * 8 = j + 1 by omega]
      have q : sd_ct (sd_q c a4 a9 a11 n j) 16 = sd_ct (sd_q c a4 a9 a11 n (j + 1)) 16 := by
        refine sd_ct_congr 16 (fun b hb => ⟨fun w => ?_, fun w => ?_⟩)
        · rcases w with w | ⟨j', hj', e⟩
          · exact Or.inl w
          · exact Or.inr ⟨j', by omega, e⟩
        · rcases w with w | ⟨j', hj', e, ed⟩
          · exact Or.inl w
          · by_cases ej : j' = j
            · rw [ej] at e ed
              exact hq b hb e ed
            · exact Or.inr ⟨j', by omega, e, ed⟩
      rw [q]
    refine br_c (fun ez => nm_r (nI_1 _) (hw _ ⟨by omega, same (fun _ _ _ ed => absurd ez ed)⟩)) (fun ez => ⟨pk_in (n * 8 + j) 24 (by omega), sd_journaled hn hc e3 (fun hno => ?_) (fun i hi e => ?_)⟩)
    · refine br_f (by decide) (nm_e (nm_r (nI_1 _) (hw _ ⟨by omega, ?_⟩)))
      rcases (kC n hn).1 j hj8 with w | ⟨w1, b, hb, w9, w10, wo⟩
      · exact absurd w.2 ez
      · have q : sd_ct (sd_q c a4 a9 a11 n (j + 1)) 16 = sd_ct (sd_q c a4 a9 a11 n j) 16 + 1 := by
          refine sd_ct_add (b0 := b) ?_ ?_ 16 ?_ hb
          · intro w
            rcases w with ⟨i, hi, e⟩ | ⟨j', hj', e, ed⟩
            · exact hno i hi (e.trans w9.symm)
            · have ej : j' = j := (kC n hn).2 j' j (by omega) hj8 (e.trans w9.symm) (fun w => sd_m1 (by omega) (w.symm.trans e))
              omega
          · exact Or.inr ⟨j, by omega, w9, ez⟩
          · intro b' hb' hne
            constructor
            · intro w
              rcases w with w | ⟨j', hj', e, ed⟩
              · exact Or.inl w
              · by_cases ej : j' = j
                · rw [ej, w9] at e
                  exact absurd (sd_inj hb hb' e).symm hne
                · exact Or.inr ⟨j', by omega, e, ed⟩
            · intro w
              rcases w with w | ⟨j', hj', e⟩
              · exact Or.inl w
              · exact Or.inr ⟨j', by omega, e⟩
        rw [show n * 8 + j + 1 - n * 8 = j + 1 by omega, q, hI, nI_1]
    · refine br_t (nI_pos' (by omega)) (nm_r (nI_1 _) (hw _ ⟨by omega, same (fun b hb e9 _ => ?_)⟩))
      exact Or.inl ⟨i, hi, e.trans e9⟩
end
end
section
/-! PART 6: making safe, dying, locks -/
def sd_fl (m : Nat) (A : sd_A) : sd_A := (A.1, sd_flH m A.2.1 A.2.2.1 A.2.2.2, A.2.2.1, sd_flO m A.2.2.2)
def sd_fb (n b : Nat) (A : sd_A) : sd_A := if A.2.2.2 b = n then sd_fl n A else A
def sd_tki (i n b : Nat) (A : sd_A) : sd_A := if ¬ A.2.2.2 b = n ∧ A.2.2.2 b < i then sd_fl (A.2.2.2 b) A else A
def sd_lk (s : St1) : Nat → Int32 := match s with
  | (_, _, _, _, _, _, _, _, a8, _, _, _, _) => a8
section
variable {R n c k b : Nat} {f0 x y z : Int32} {U H V : Nat → Int32} {O : Nat → Nat} {D : Nat → Prop} {A : sd_A} {a1 a2 a3 a4 a5 a6 a7 a8 a9 a10 a11 a12 : Nat → Int32}
theorem sd_JN_home (hJ : sd_JN V O D a3 a4 a5 n) (nd : ∀ b, ¬ D b) :
    ∃ c, c ≤ 16 ∧ a3 n = nI c ∧ (∀ i, i < c → ∃ b, b < 16 ∧ a4 (n * 16 + i) = nI b) ∧
      ∀ (f : Nat → Int32) b, b < 16 → (O b = n → sd_bh a4 a5 (n * 16) f c b = V b) ∧ (¬ O b = n → sd_bh a4 a5 (n * 16) f c b = f b) := by
  obtain ⟨c, hc, e3, h1, h2, h4⟩ := hJ
  refine ⟨c, hc, e3, fun i hi => ?_, fun f b hb => ?_⟩
  · obtain ⟨b, hb, e, _⟩ := h1 i hi
    exact ⟨b, hb, e⟩
  · obtain ⟨q1, q2⟩ := sd_bh_eq (V := V) (p := n * 16) (f := f) (a4 := a4) (a5 := a5) c (fun i hi => by
      obtain ⟨b, hb, e, _, ev⟩ := h1 i hi
      exact ⟨b, hb, e, ev.resolve_right (nd b)⟩) b hb
    refine ⟨fun ho => q1 ((h4 b hb ho).resolve_right (nd b)), fun ho => q2 (fun i hi e => ?_)⟩
    obtain ⟨b', hb', e', eo, _⟩ := h1 i hi
    rw [sd_inj hb' hb (e'.symm.trans e)] at eo
    exact ho eo
theorem sd_makeSafe {post : Int32 → St1 → Prop} (hn : n < 3) (h : sd_K R U H V O a1 a2 a3 a4 a5 a8 a9 a10 a11 a12) (h7 : ∀ m, m < 3 → a7 m = 0)
    (P : ∀ a2' a3' a4' a5' a6' a7' a11' : Nat → Int32, sd_K R U (sd_flH n H V O) V (sd_flO n O) a1 a2' a3' a4' a5' a8 a9 a10 a11' a12 → (∀ m, m < 3 → a7' m = 0) → post (nI (sd_cn O n)) (nI R, a1, a2', a3', a4', a5', a6', a7', a8, a9, a10, a11', a12)) :
    wpX_makeSafe post (nI R, a1, a2, a3, a4, a5, a6, a7, a8, a9, a10, a11, a12) (nI n) := by
  unfold wpX_makeSafe
  dsimp only
  refine sd_unsafeCount hn h (sd_fillJournal hn h (fun a3' a4' a5' a11' hK hz => ?_))
  have hK' := hK
  obtain ⟨hR, k1, k2, kO, kL, kJ, kC, kh⟩ := hK'
  obtain ⟨c, hc, e3, h4, hh⟩ := sd_JN_home (kJ n hn) (fun b ⟨i, hi, _, ed⟩ => ed (hz i (by omega)))
  refine sd_markJournal hn hc e3 ?_
  dsimp only
  refine sd_bringHome hn hc e3 h4 ?_
  dsimp only
  refine P _ _ _ _ _ _ _ (sd_K_home hK hn hz (fun b hb => (hh a2 b hb).1) (fun b hb => (hh a2 b hb).2) pk_us (fun m _ hm => pk_un hm)) (fun m hm => ?_)
  by_cases e : m = n
  · rw [e, pk_us]
  · rw [pk_un e, pk_un e]; exact h7 m hm
theorem sd_die59 {post : St1 → Prop} (hn : n < 3) (P : ∀ a8' : Nat → Int32, (∀ k, (k < n * 16 ∨ n * 16 + 16 ≤ k) → a8' k = a8 k) → post (f0, a1, a2, a3, a4, a5, a6, a7, a8', a9, a10, a11, a12)) :
    ∃ f, wX_die_59 post (nI n) f0 f 0 a1 a2 a3 a4 a5 a6 a7 a8 a9 a10 a11 a12 := by
  refine pk_loop (σ := Nat → Int32) (fun f i s => wX_die_59 post (nI n) f0 f (nI i) a1 a2 a3 a4 a5 a6 a7 s a9 a10 a11 a12) (fun _ s => ∀ k, (k < n * 16 ∨ n * 16 + 16 ≤ k) → s k = a8 k) 16 0 a8 (by omega) (fun _ _ => rfl) (fun f s hI => pk_le 16 16 (fun _ => P s hI) (fun w => absurd w (by omega))) (fun f i s hi hI hw => ?_)
  have ei : nI n * 16 + nI i = nI (n * 16 + i) := by rw [sd_mul n 16 16 rfl, nI_add]
  refine pk_le 16 i (fun w => absurd w (by omega)) (fun _ => ⟨pk_in (n * 16 + i) 48 (by omega) ei, nm_r (e' := upd s (n * 16 + i) 0) ?_ (nm_r (nI_1 i) (hw _ (fun k hk => ?_)))⟩)
  · rw [ei, nI_clamp (by omega)]
  · rw [pk_un (by omega)]; exact hI k hk
theorem sd_die_raw {post : St1 → Prop} {a2' : Nat → Int32} (hn : n < 3)
    (hm : (a7 n = 0 ∧ a2' = a2) ∨ (¬ a7 n = 0 ∧ ∃ c, c ≤ 16 ∧ a3 n = nI c ∧ a6 n = sd_sm a4 a5 (n * 16) (7 + nI c) c ∧ (∀ i, i < c → ∃ b, b < 16 ∧ a4 (n * 16 + i) = nI b) ∧ a2' = sd_bh a4 a5 (n * 16) a2 c))
    (P : ∀ a8' a9' a11' : Nat → Int32, (∀ k, (k < n * 16 ∨ n * 16 + 16 ≤ k) → a8' k = a8 k) → (∀ i, i < 8 → a9' (n * 8 + i) = -1 ∧ a11' (n * 8 + i) = 0)
      → (∀ k, (k < n * 8 ∨ n * 8 + 8 ≤ k) → a9' k = a9 k ∧ a11' k = a11 k) → post (f0, upd a1 n 0, a2', upd a3 n 0, a4, a5, a6, upd a7 n 0, a8', a9', a10, a11', a12)) :
    wpX_die post (f0, a1, a2, a3, a4, a5, a6, a7, a8, a9, a10, a11, a12) (nI n) := by
  have e1 : nI n * 8 + 8 = nI (n * 8 + 8) := by
    rw [sd_mul n 8 8 rfl, show (8 : Int32) = nI 8 from rfl, nI_add]
  unfold wpX_die
  dsimp only
  rw [nI_clamp (n := n) (by omega)]
  refine ⟨pk_in n 3 hn, nm_e ?_⟩
  intro x2 ex
  rw [ex, sd_mul n 8 8 rfl]
  refine pk_loop (σ := (Nat → Int32) × (Nat → Int32)) (fun f i s => wX_die_12 post (nI n) f (nI i) f0 (upd a1 n 0) a2 a3 a4 a5 a6 a7 a8 s.1 a10 s.2 a12)
    (fun i s => n * 8 ≤ i ∧ (∀ j, n * 8 + j < i → s.1 (n * 8 + j) = -1 ∧ s.2 (n * 8 + j) = 0) ∧ (∀ k, (k < n * 8 ∨ n * 8 + 8 ≤ k) → s.1 k = a9 k ∧ s.2 k = a11 k)) (n * 8 + 8) (n * 8) (a9, a11) (by omega)
    ⟨by omega, fun j hj => absurd hj (by omega), fun _ _ => ⟨rfl, rfl⟩⟩ (fun f s hI => ?_) (fun f i s hi hI hw => ?_)
  · obtain ⟨b9, b11⟩ := s
    obtain ⟨hl, hz, hf⟩ := hI
    dsimp only at hz hf
    refine pk_le (n * 8 + 8) (n * 8 + 8) (fun _ => ?_) (fun w => absurd w (by omega)) e1
    rcases hm with ⟨h7, e2⟩ | ⟨h7, c, hc, e3, e6, h4, e2⟩
    · rw [e2] at P
      exact sd_whole0 hn h7 (br_t rfl (sd_emptyJournal hn (sd_die59 hn (fun a8' h8 => P a8' b9 b11 h8 (fun i hi => hz i (by omega)) hf))))
    · rw [e2] at P
      exact sd_whole1 hn hc e3 h7 e6 (br_f (by decide) (sd_bringHome hn hc e3 h4 (sd_die59 hn (fun a8' h8 => P a8' b9 b11 h8 (fun i hi => hz i (by omega)) hf))))
  · obtain ⟨b9, b11⟩ := s
    obtain ⟨hl, hz, hf⟩ := hI
    obtain ⟨j, rfl⟩ : ∃ j, i = n * 8 + j := ⟨i - n * 8, by omega⟩
    dsimp only at hz hf
    refine pk_le (n * 8 + 8) (n * 8 + j) (fun w => absurd w (by omega)) (fun _ => sd_dropCell (by omega) (nm_r (nI_1 _) (hw (upd b9 (n * 8 + j) (-1), upd b11 (n * 8 + j) 0) ⟨by omega, fun j' hj' => ?_, fun k hk => ?_⟩))) e1
    · by_cases ej : j' = j
      · rw [ej]; exact ⟨pk_us, pk_us⟩
      · have q := hz j' (by omega)
        exact ⟨(pk_un (by omega)).trans q.1, (pk_un (by omega)).trans q.2⟩
    · have q := hf k hk
      exact ⟨(pk_un (by omega)).trans q.1, (pk_un (by omega)).trans q.2⟩
/-- a node dies with an unmarked journal -/
theorem sd_die0 {post : St1 → Prop} (hn : n < 3) (h : sd_K R U H V O a1 a2 a3 a4 a5 a8 a9 a10 a11 a12) (h7 : ∀ m, m < 3 → a7 m = 0)
    (P : ∀ s', sd_I s' (upd U n 0, H, sd_loV n H V O, sd_flO n O) → post s') : wpX_die post (nI R, a1, a2, a3, a4, a5, a6, a7, a8, a9, a10, a11, a12) (nI n) := by
  refine sd_die_raw hn (Or.inl ⟨h7 n hn, rfl⟩) (fun a8' a9' a11' h8 h9 hf => P _ ⟨R, rfl, ?_, fun m hm => ?_⟩)
  · exact sd_K_die h hn pk_us (fun m _ hm => pk_un hm) (fun m b hm hb hne => h8 _ (by omega)) h9 (fun m i hm hi hne => hf _ (by omega))
  · by_cases e : m = n
    · rw [e, pk_us]
    · rw [pk_un e]; exact h7 m hm
/-- a node dies with a marked journal, its cells clean -/
theorem sd_die1 {post : St1 → Prop} (hn : n < 3) (h : sd_K R U H V O a1 a2 a3 a4 a5 a8 a9 a10 a11 a12) (hz : ∀ i, i < 8 → a11 (n * 8 + i) = 0) (h7 : ∀ m, m < 3 → m ≠ n → a7 m = 0)
    (h7n : ¬ a7 n = 0) (hc : c ≤ 16) (e3 : a3 n = nI c) (e6 : a6 n = sd_sm a4 a5 (n * 16) (7 + nI c) c)
    (P : ∀ s', sd_I s' (upd U n 0, sd_flH n H V O, V, sd_flO n O) → post s') : wpX_die post (nI R, a1, a2, a3, a4, a5, a6, a7, a8, a9, a10, a11, a12) (nI n) := by
  have h' := h
  obtain ⟨hR, k1, k2, kO, kL, kJ, kC, kh⟩ := h'
  obtain ⟨c', hc', e3', h4, hh⟩ := sd_JN_home (kJ n hn) (fun b ⟨i, hi, _, ed⟩ => ed (hz i (by omega)))
  have ec : c' = c := (nI_eq (by omega) (by omega)).mp (e3'.symm.trans e3)
  rw [ec] at h4 hh
  refine sd_die_raw hn (Or.inr ⟨h7n, c, hc, e3, e6, h4, rfl⟩) (fun a8' a9' a11' h8 h9 hf => P _ ⟨R, rfl, ?_, fun m hm => ?_⟩)
  · have q := sd_K_home h hn hz (fun b hb => (hh a2 b hb).1) (fun b hb => (hh a2 b hb).2) (a3' := upd a3 n 0) pk_us (fun m _ hm => pk_un hm)
    have q2 := sd_K_die (a3' := upd a3 n 0) (a8' := a8') (a9' := a9') (a11' := a11') q hn pk_us (fun m _ hm => rfl) (fun m b hm hb hne => h8 _ (by omega)) h9 (fun m i hm hi hne => hf _ (by omega))
    have w1 : sd_loV n (sd_flH n H V O) V (sd_flO n O) = V := funext (fun b => sd_loV_f (sd_flO_ne hn))
    have w2 : sd_flO n (sd_flO n O) = sd_flO n O := funext (fun b => sd_flO_f (sd_flO_ne hn))
    rw [w1, w2] at q2
    exact q2
  · by_cases e : m = n
    · rw [e, pk_us]
    · rw [pk_un e]; exact h7 m hm e
theorem sd_forget {post : St1 → Prop} (hn : n < 3) (hb : b < 16) (h : sd_K R U H V O a1 a2 a3 a4 a5 a8 a9 a10 a11 a12) (ho : ¬ O b = n)
    (P : ∀ a9' a11' : Nat → Int32, sd_K R U H V O a1 a2 a3 a4 a5 a8 a9' a10 a11' a12 → (∀ i, i < 8 → ¬ a9' (n * 8 + i) = nI b) → post (nI R, a1, a2, a3, a4, a5, a6, a7, a8, a9', a10, a11', a12)) :
    wpX_forget post (nI R, a1, a2, a3, a4, a5, a6, a7, a8, a9, a10, a11, a12) (nI n) (nI b) := by
  have h' := h
  obtain ⟨hR, k1, k2, kO, kL, kJ, kC, kh⟩ := h'
  unfold wpX_forget
  dsimp only
  refine sd_cached hn hR.2 (fun hnc => ?_) (fun i hi e9 => ?_)
  · exact br_t (by decide) (P a9 a11 h (fun i hi e => hnc i (sd_cell (kC n hn) hi hb e).1 e))
  · have hi8 : i < 8 := by omega
    have q := (sd_cell (kC n hn) hi8 hb e9).2.2
    have e11 : a11 (n * 8 + i) = 0 := by
      rcases q with q | q
      · exact absurd q ho
      · exact q.2
    refine br_f (nI_pos (by omega)) (sd_dropCell (by omega) (P (upd a9 (n * 8 + i) (-1)) (upd a11 (n * 8 + i) 0) (sd_K_drop h hn hi8 hb e9 e11) (fun j hj e => ?_)))
    by_cases ej : j = i
    · rw [ej, pk_us] at e
      exact sd_m1 (by omega) e
    · rw [pk_un (by omega)] at e
      exact ej ((kC n hn).2 j i hj hi8 (e.trans e9.symm) (fun w => sd_m1 (by omega) (w.symm.trans e)))
theorem sd_sb19 {post : St1 → Prop} {md : Int32} (hn : n < 3) (hb : b < 16) (h : sd_K R U H V O a1 a2 a3 a4 a5 a8 a9 a10 a11 a12) (ho : ¬ O b = n)
    (P : ∀ a8' a9' a11' : Nat → Int32, sd_K R U H V O a1 a2 a3 a4 a5 a8' a9' a10 a11' a12 → (∀ m b', m ≠ n → b' < 16 → a8' (m * 16 + b') = a8 (m * 16 + b')) → (md = 2 → a8' (n * 16 + b) = 0)
      → post (nI R, a1, a2, a3, a4, a5, a6, a7, a8', a9', a10, a11', a12)) : wX_stepBack_19 post (nI n) (nI b) md (nI R) a1 a2 a3 a4 a5 a6 a7 a8 a9 a10 a11 a12 := by
  have ei : nI n * 16 + nI b = nI (n * 16 + b) := by rw [sd_mul n 16 16 rfl, nI_add]
  have one : ¬ (1 : Int32) = 0 := by decide
  unfold wX_stepBack_19
  rw [ei, nI_clamp (n := n * 16 + b) (by omega)]
  refine br_c (fun e => sd_forget hn hb h ho (fun a9' a11' hK hne => ⟨pk_in (n * 16 + b) 48 (by omega), nm_e (P (upd a8 (n * 16 + b) 0) a9' a11' (sd_K_lk hK (fun m b' hm hb' w => ?_)) (fun m b' hm hb' => pk_un (by omega)) (fun _ => pk_us))⟩))
    (fun e => ⟨pk_in (n * 16 + b) 48 (by omega), nm_e (P (upd a8 (n * 16 + b) 1) a9 a11 (sd_K_lk h (fun m b' hm hb' w => ?_)) (fun m b' hm hb' => pk_un (by omega)) (fun w => absurd w e))⟩)
  · by_cases ek : m * 16 + b' = n * 16 + b
    · have em : m = n := by omega
      have eb : b' = b := by omega
      rw [em, eb]
      exact Or.inr ⟨ho, hne⟩
    · rw [pk_un ek] at w
      exact Or.inl w
  · by_cases ek : m * 16 + b' = n * 16 + b
    · rw [ek, pk_us] at w
      exact absurd w one
    · rw [pk_un ek] at w
      exact Or.inl w
theorem sd_stepBack {post : St1 → Prop} {md : Int32} (hn : n < 3) (hb : b < 16) (h : sd_I (f0, a1, a2, a3, a4, a5, a6, a7, a8, a9, a10, a11, a12) A)
    (P : ∀ s', sd_I s' (sd_fb n b A) → (∀ m b', m ≠ n → b' < 16 → sd_lk s' (m * 16 + b') = a8 (m * 16 + b')) → (md = 2 → sd_lk s' (n * 16 + b) = 0) → post s') :
    wpX_stepBack post (f0, a1, a2, a3, a4, a5, a6, a7, a8, a9, a10, a11, a12) (nI n) (nI b) md := by
  obtain ⟨R, eR, h, h7⟩ := h
  rw [eR]
  unfold wpX_stepBack
  dsimp only
  refine sd_isUnsafe hn hb h (fun ho => ?_) (fun ho => ?_)
  · refine br_f (by decide) (sd_makeSafe hn h h7 (fun a2' a3' a4' a5' a6' a7' a11' hK h7' => ?_))
    refine sd_sb19 hn hb hK (sd_flO_ne hn) (fun a8' a9' a11'' hK' f8 f8' => P _ ?_ f8 f8')
    have e : sd_fb n b A = sd_fl n A := if_pos ho
    rw [e]
    exact ⟨R, rfl, hK', h7'⟩
  · refine br_t rfl (sd_sb19 hn hb h ho (fun a8' a9' a11'' hK' f8 f8' => P _ ?_ f8 f8'))
    have e : sd_fb n b A = A := if_neg ho
    rw [e]
    exact ⟨R, rfl, hK', h7⟩
end
end
section
/-! PART 7: taking locks, cells, reading and writing a block -/
def sd_tk (n b : Nat) (A : sd_A) : sd_A := sd_tki 3 n b A
def sd_wr (n b : Nat) (v : Int32) (A : sd_A) : sd_A := ((sd_tk n b A).1, (sd_tk n b A).2.1, upd (sd_tk n b A).2.2.1 b v, sd_up (sd_tk n b A).2.2.2 b n)
section
variable {R n c k b i : Nat} {f0 x y z : Int32} {U H V : Nat → Int32} {O : Nat → Nat} {D : Nat → Prop} {A : sd_A} {a1 a2 a3 a4 a5 a6 a7 a8 a9 a10 a11 a12 : Nat → Int32}
theorem sd_tki_t (h : ¬ A.2.2.2 b = n) (h2 : A.2.2.2 b < i) : sd_tki i n b A = sd_fl (A.2.2.2 b) A := if_pos ⟨h, h2⟩
theorem sd_tki_f (h : A.2.2.2 b = n ∨ i ≤ A.2.2.2 b) : sd_tki i n b A = A := if_neg (fun w => by omega)
theorem sd_tki_s (h : i = n ∨ ¬ A.2.2.2 b = i) : sd_tki (i + 1) n b A = sd_tki i n b A := by
  by_cases e : A.2.2.2 b = n
  · rw [sd_tki_f (Or.inl e), sd_tki_f (Or.inl e)]
  · by_cases e2 : A.2.2.2 b < i
    · rw [sd_tki_t e e2, sd_tki_t e (by omega)]
    · rw [sd_tki_f (Or.inr (by omega)), sd_tki_f (Or.inr (by omega))]
theorem sd_tki_b (hi : i < 3) (hne : i ≠ n) : sd_fb i b (sd_tki i n b A) = sd_tki (i + 1) n b A := by
  by_cases e : A.2.2.2 b = i
  · rw [sd_tki_f (i := i) (Or.inr (by omega)), sd_tki_t (i := i + 1) (by omega) (by omega), e]
    exact if_pos e
  · rw [sd_tki_s (Or.inr e)]
    refine if_neg ?_
    by_cases e1 : A.2.2.2 b = n
    · rw [sd_tki_f (Or.inl e1)]; exact e
    · by_cases e2 : A.2.2.2 b < i
      · rw [sd_tki_t e1 e2]
        have q : sd_flO (A.2.2.2 b) A.2.2.2 b = 3 := sd_flO_t rfl
        intro w
        have w' : sd_flO (A.2.2.2 b) A.2.2.2 b = i := w
        omega
      · rw [sd_tki_f (Or.inr (by omega))]; exact e
theorem sd_tki_o (h : (sd_tki i n b A).2.2.2 b ≠ i) : ¬ A.2.2.2 b = i := by
  intro e
  rw [sd_tki_f (Or.inr (by omega))] at h
  exact h e
theorem sd_tk_U : (sd_tki i n b A).1 = A.1 := by
  unfold sd_tki
  split
  · rfl
  · rfl
theorem sd_tk_V : (sd_tki i n b A).2.2.1 = A.2.2.1 := by
  unfold sd_tki
  split
  · rfl
  · rfl
theorem sd_tk_own (hO : A.2.2.2 b ≤ 3) : (sd_tk n b A).2.2.2 b = n ∨ (sd_tk n b A).2.2.2 b = 3 := by
  unfold sd_tk
  by_cases e1 : A.2.2.2 b = n
  · rw [sd_tki_f (Or.inl e1)]; exact Or.inl e1
  · by_cases e2 : A.2.2.2 b < 3
    · rw [sd_tki_t e1 e2]; exact Or.inr (sd_flO_t rfl)
    · rw [sd_tki_f (Or.inr (by omega))]; exact Or.inr (by omega)
theorem sd_take {post : St1 → Prop} {md : Int32} (hn : n < 3) (hb : b < 16) (hmd : md = 1 ∨ md = 2) (h : sd_I (f0, a1, a2, a3, a4, a5, a6, a7, a8, a9, a10, a11, a12) A)
    (P : ∀ s', sd_I s' (sd_tk n b A) → ¬ sd_lk s' (n * 16 + b) = 0 → (md = 2 → ∀ m, m < 3 → m ≠ n → sd_lk s' (m * 16 + b) = 0) → post s') :
    wpX_take post (f0, a1, a2, a3, a4, a5, a6, a7, a8, a9, a10, a11, a12) (nI n) (nI b) md := by
  have md0 : ¬ md = 0 := by
    rcases hmd with e | e
    · rw [e]; decide
    · rw [e]; decide
  have mdl : ¬ md ≤ 0 := by
    rcases hmd with e | e
    · rw [e]; decide
    · rw [e]; decide
  have ei : nI n * 16 + nI b = nI (n * 16 + b) := by rw [sd_mul n 16 16 rfl, nI_add]
  unfold wpX_take
  dsimp only
  refine pk_loop (σ := St1) (fun f i s => match s with | (f0, a1, a2, a3, a4, a5, a6, a7, a8, a9, a10, a11, a12) => wX_take_3 post (nI n) (nI b) md f (nI i) f0 a1 a2 a3 a4 a5 a6 a7 a8 a9 a10 a11 a12)
    (fun i s => sd_I s (sd_tki i n b A) ∧ (md = 2 → ∀ m, m < i → m ≠ n → sd_lk s (m * 16 + b) = 0)) 3 0 (f0, a1, a2, a3, a4, a5, a6, a7, a8, a9, a10, a11, a12) (by omega) ⟨?_, fun _ m hm => absurd hm (by omega)⟩ (fun f s hI => ?_) (fun f i s hi hI hw => ?_)
  · rw [sd_tki_f (Or.inr (by omega))]; exact h
  · obtain ⟨g0, g1, g2, g3, g4, g5, g6, g7, g8, g9, g10, g11, g12⟩ := s
    obtain ⟨hI, hl⟩ := hI
    refine pk_le 3 3 (fun _ => ⟨pk_in (n * 16 + b) 48 (by omega) ei, ?_⟩) (fun w => absurd w (by omega))
    rw [ei, nI_clamp (n := n * 16 + b) (by omega)]
    refine br_c (fun w => P _ hI (fun w0 => ?_) hl) (fun w => ⟨pk_in (n * 16 + b) 48 (by omega), nm_e (P _ ?_ ?_ (fun e m hm hne => ?_))⟩)
    · have w0' : g8 (n * 16 + b) = 0 := w0
      rw [w0'] at w
      exact mdl w
    · obtain ⟨R, eR, hK, h7⟩ := hI
      refine ⟨R, eR, sd_K_lk hK (fun m b' hm hb' w => ?_), h7⟩
      by_cases ek : m * 16 + b' = n * 16 + b
      · rw [ek, pk_us] at w
        exact absurd w md0
      · rw [pk_un ek] at w
        exact Or.inl w
    · show ¬ upd g8 (n * 16 + b) md (n * 16 + b) = 0
      rw [pk_us]; exact md0
    · show upd g8 (n * 16 + b) md (m * 16 + b) = 0
      rw [pk_un (by omega)]
      exact hl e m hm hne
  · obtain ⟨g0, g1, g2, g3, g4, g5, g6, g7, g8, g9, g10, g11, g12⟩ := s
    obtain ⟨hI, hl⟩ := hI
    have ej : nI i * 16 + nI b = nI (i * 16 + b) := by rw [sd_mul i 16 16 rfl, nI_add]
    refine pk_le 3 i (fun w => absurd w (by omega)) (fun _ => pk_eq i n (fun e => nm_r (nI_1 i) (hw (g0, g1, g2, g3, g4, g5, g6, g7, g8, g9, g10, g11, g12) ⟨?_, fun e2 m hm hne => hl e2 m (by omega) hne⟩)) (fun ne => ⟨pk_in (i * 16 + b) 48 (by omega) ej, ?_⟩))
    · rw [sd_tki_s (Or.inl e)]; exact hI
    · rw [ej, nI_clamp (n := i * 16 + b) (by omega)]
      refine br_c (fun w => nm_r (nI_1 i) (hw (g0, g1, g2, g3, g4, g5, g6, g7, g8, g9, g10, g11, g12) ⟨?_, fun e2 m hm hne => ?_⟩)) (fun w => sd_stepBack hi hb hI (fun s' hI' f8 f8' => ?_))
      · obtain ⟨R, eR, hK, h7⟩ := hI
        have hK' := hK
        obtain ⟨hR, k1, k2, kO, kL, kJ, kC, kh⟩ := hK'
        rw [sd_tki_s (Or.inr (sd_tki_o (kL i b hi hb w).1))]
        exact ⟨R, eR, hK, h7⟩
      · by_cases em : m = i
        · rw [em]; exact w
        · exact hl e2 m (by omega) hne
      · obtain ⟨q0, q1, q2, q3, q4, q5, q6, q7, q8, q9, q10, q11, q12⟩ := s'
        refine nm_r (nI_1 i) (hw (q0, q1, q2, q3, q4, q5, q6, q7, q8, q9, q10, q11, q12) ⟨?_, fun e2 m hm hne => ?_⟩)
        · rw [← sd_tki_b hi ne]; exact hI'
        · by_cases em : m = i
          · rw [em]; exact f8' e2
          · exact (f8 m b em hb).trans (hl e2 m (by omega) hne)
theorem sd_fc57 {post : Int32 → St1 → Prop} {h' : Nat} (hn : n < 3) (hi : i < R) (hb : b < 16) (h : sd_K R U H V O a1 a2 a3 a4 a5 a8 a9 a10 a11 a12) (hh : h' < R) (e9 : a9 (n * 8 + i) = nI b)
    (P : ∀ a3' a4' a5' a9' a11' a12' : Nat → Int32, sd_K R U H V O a1 a2 a3' a4' a5' a8 a9' a10 a11' a12' → a9' (n * 8 + i) = -1 → (∀ j, j < 8 → a9' (n * 8 + j) = a9 (n * 8 + j) ∨ a9' (n * 8 + j) = -1)
      → post (nI (n * 8 + i)) (nI R, a1, a2, a3', a4', a5', a6, a7, a8, a9', a10, a11', a12')) :
    wX_freeCell_57 post (nI n) (nI (n * 8 + i)) (nI h') (nI n) (nI R) a1 a2 a3 a4 a5 a6 a7 a8 a9 a10 a11 a12 := by
  have hR := h.1
  have hi8 : i < 8 := by omega
  have hk := sd_K_hand (n := n) h hh
  have fr : ∀ j, j < 8 → upd a9 (n * 8 + i) (-1) (n * 8 + j) = a9 (n * 8 + j) ∨ upd a9 (n * 8 + i) (-1) (n * 8 + j) = -1 := by
    intro j hj
    by_cases ej : j = i
    · rw [ej]; exact Or.inr pk_us
    · exact Or.inl (pk_un (by omega))
  unfold wX_freeCell_57
  rw [nI_clamp (n := n) (by omega), nI_clamp (n := n * 8 + i) (by omega)]
  refine ⟨pk_in n 3 hn, nm_e ⟨pk_in (n * 8 + i) 24 (by omega), br_c (fun ez => ?_) (fun ez => ⟨pk_in (n * 8 + i) 24 (by omega), pk_in (n * 8 + i) 24 (by omega), ?_⟩)⟩⟩
  · unfold wX_freeCell_84
    exact sd_dropCell (by omega) (P _ _ _ _ _ _ (sd_K_drop hk hn hi8 hb e9 ez) pk_us fr)
  · have hk' := hk
    obtain ⟨_, k1, k2, kO, kL, kJ, kC, kh⟩ := hk'
    obtain ⟨_, e10, ho⟩ := sd_cell (kC n hn) hi8 hb e9
    have ho' : O b = n := by
      rcases ho with w | w
      · exact w
      · exact absurd w.2 ez
    rw [e9, e10]
    refine sd_writeJournal hn hb (kJ n hn) ho' (fun a3' a4' a5' f3 f45 fJ => ?_)
    show wX_freeCell_84 _ _ _ _ _ _ _ _ _ _ _ _ _ _ _
    unfold wX_freeCell_84
    exact sd_dropCell (by omega) (P _ _ _ _ _ _ (sd_K_cell hk hn hi8 hb e9 f3 (fun m j hm hne hj => f45 _ (by omega)) fJ (fun k hk => pk_un hk) (Or.inr pk_us) (fun k hk => pk_un hk) pk_us) pk_us fr)
theorem sd_freeCell {post : Int32 → St1 → Prop} (hn : n < 3) (h : sd_K R U H V O a1 a2 a3 a4 a5 a8 a9 a10 a11 a12)
    (P : ∀ (i : Nat) (a3' a4' a5' a9' a11' a12' : Nat → Int32), i < R → sd_K R U H V O a1 a2 a3' a4' a5' a8 a9' a10 a11' a12' → a9' (n * 8 + i) = -1 → (∀ j, j < 8 → a9' (n * 8 + j) = a9 (n * 8 + j) ∨ a9' (n * 8 + j) = -1)
      → post (nI (n * 8 + i)) (nI R, a1, a2, a3', a4', a5', a6, a7, a8, a9', a10, a11', a12')) :
    wpX_freeCell post (nI R, a1, a2, a3, a4, a5, a6, a7, a8, a9, a10, a11, a12) (nI n) := by
  have h' := h
  obtain ⟨hR, k1, k2, kO, kL, kJ, kC, kh⟩ := h'
  unfold wpX_freeCell
  dsimp only
  refine sd_cached hn hR.2 (fun hnc => ?_) (fun i hi e9 => ?_)
  · obtain ⟨t, ht, e12⟩ := kh n hn
    have ex : nI n * 8 + nI t = nI (n * 8 + t) := by rw [sd_mul n 8 8 rfl, nI_add]
    rw [nI_clamp (n := n) (by omega), e12, ex, nI_1]
    rcases (kC n hn).1 t (by omega) with w | ⟨_, b, hb, w9, _⟩
    · exact absurd w.1 (hnc t ht)
    · refine br_t (by decide) ⟨pk_in n 3 hn, nm_e ⟨pk_in n 3 hn, pk_lt (t + 1) R (fun w => ⟨pk_in n 3 hn, sd_fc57 hn ht hb h w w9 (fun a3' a4' a5' a9' a11' a12' hK q f => P t a3' a4' a5' a9' a11' a12' ht hK q f)⟩) (fun w => ?_)⟩⟩
      exact sd_fc57 (h' := 0) hn ht hb h (by omega) w9 (fun a3' a4' a5' a9' a11' a12' hK q f => P t a3' a4' a5' a9' a11' a12' ht hK q f)
  · exact br_f (nI_pos (by omega)) (P i a3 a4 a5 a9 a11 a12 hi h e9 (fun j _ => Or.inl rfl))
theorem sd_bringIn {post : Int32 → St1 → Prop} (hn : n < 3) (hb : b < 16) (h : sd_K R U H V O a1 a2 a3 a4 a5 a8 a9 a10 a11 a12) (ho : O b = n ∨ O b = 3) (hl : ¬ a8 (n * 16 + b) = 0)
    (P : ∀ (i : Nat) (a3' a4' a5' a9' a10' a11' a12' : Nat → Int32), i < R → sd_K R U H V O a1 a2 a3' a4' a5' a8 a9' a10' a11' a12' → a9' (n * 8 + i) = nI b
      → post (nI (n * 8 + i)) (nI R, a1, a2, a3', a4', a5', a6, a7, a8, a9', a10', a11', a12')) :
    wpX_bringIn post (nI R, a1, a2, a3, a4, a5, a6, a7, a8, a9, a10, a11, a12) (nI n) (nI b) := by
  have h' := h
  obtain ⟨hR, k1, k2, kO, kL, kJ, kC, kh⟩ := h'
  unfold wpX_bringIn
  dsimp only
  refine sd_cached hn hR.2 (fun hnc => ?_) (fun i hi e9 => ?_)
  · refine br_t (by decide) (sd_freeCell hn h (fun i a3' a4' a5' a9' a11' a12' hi hK e9 fr => ?_))
    dsimp only
    have hne : ∀ j, j < 8 → ¬ a9' (n * 8 + j) = nI b := by
      intro j hj e
      rcases fr j hj with w | w
      · rw [w] at e
        exact hnc j (sd_cell (kC n hn) hj hb e).1 e
      · exact sd_m1 (by omega) (w.symm.trans e)
    have hK' := hK
    obtain ⟨_, _, _, _, _, kJ', kC', _⟩ := hK'
    obtain ⟨c, hc, e3, h1, h2, h4⟩ := kJ' n hn
    have nd : ¬ sd_dc R a9' a11' n b := fun ⟨j, hj, e, _⟩ => hne j (by omega) e
    have cl : (nI (n * 8 + i)).toNatClampNeg = n * 8 + i := nI_clamp (by omega)
    refine sd_journaled hn hc e3 (fun hno => ?_) (fun j hj e => ?_)
    · rw [cl, nI_clamp (n := b) (by omega)]
      have eV : a2 b = V b := by
        rcases ho with w | w
        · rcases h4 b hb w with ⟨j, hj, e⟩ | q
          · exact absurd e (hno j hj)
          · exact absurd q nd
        · rw [k2 b hb, (kO b hb).2 w]
      refine ⟨pk_in (n * 8 + i) 24 (by omega), nm_e (br_t (by decide) ⟨pk_in b 16 hb, pk_in (n * 8 + i) 24 (by omega), nm_e ?_⟩)⟩
      rw [eV]
      exact P i _ _ _ _ _ _ _ hi (sd_K_in hK hn hi hb e9 hne ho hl) pk_us
    · rw [cl, nI_clamp (n := n * 16 + j) (by omega)]
      have eV : a5' (n * 16 + j) = V b := by
        obtain ⟨b', hb', q4, qo, qv⟩ := h1 j hj
        have eb := sd_inj hb' hb (q4.symm.trans e)
        rw [eb] at qv
        exact qv.resolve_right nd
      refine ⟨pk_in (n * 8 + i) 24 (by omega), nm_e (br_f (nI_pos (by omega)) ⟨pk_in (n * 16 + j) 48 (by omega), pk_in (n * 8 + i) 24 (by omega), nm_e ?_⟩)⟩
      rw [eV]
      exact P i _ _ _ _ _ _ _ hi (sd_K_in hK hn hi hb e9 hne ho hl) pk_us
  · exact br_f (nI_pos (by omega)) (P i a3 a4 a5 a9 a10 a11 a12 hi h e9)
theorem sd_readBlock {post : Int32 → St1 → Prop} (hn : n < 3) (hb : b < 16) (h : sd_I (f0, a1, a2, a3, a4, a5, a6, a7, a8, a9, a10, a11, a12) A) (P : ∀ s', sd_I s' (sd_tk n b A) → post (A.2.2.1 b) s') :
    wpX_readBlock post (f0, a1, a2, a3, a4, a5, a6, a7, a8, a9, a10, a11, a12) (nI n) (nI b) := by
  have hO : A.2.2.2 b ≤ 3 := by
    obtain ⟨R, eR, ⟨_, _, _, kO, _⟩, _⟩ := h
    exact (kO b hb).1
  unfold wpX_readBlock
  dsimp only
  refine sd_take hn hb (Or.inl rfl) h (fun s' hI hl _ => ?_)
  obtain ⟨g0, g1, g2, g3, g4, g5, g6, g7, g8, g9, g10, g11, g12⟩ := s'
  obtain ⟨R, eR, hK, h7⟩ := hI
  rw [eR]
  dsimp only
  refine sd_bringIn hn hb hK (sd_tk_own hO) hl (fun i a3' a4' a5' a9' a10' a11' a12' hi hK' e9 => ?_)
  dsimp only
  have hR := hK.1
  have e10 : a10' (nI (n * 8 + i)).toNatClampNeg = A.2.2.1 b := by
    rw [nI_clamp (by omega)]
    have hK'' := hK'
    obtain ⟨_, _, _, _, _, _, kC', _⟩ := hK''
    rw [(sd_cell (kC' n hn) (by omega) hb e9).2.1]
    exact congrFun sd_tk_V b
  refine ⟨pk_in (n * 8 + i) 24 (by omega), ?_⟩
  rw [e10]
  exact P _ ⟨R, rfl, hK', h7⟩
theorem sd_writeBlock {post : St1 → Prop} {v : Int32} (hn : n < 3) (hb : b < 16) (h : sd_I (f0, a1, a2, a3, a4, a5, a6, a7, a8, a9, a10, a11, a12) A) (P : ∀ s', sd_I s' (sd_wr n b v A) → post s') :
    wpX_writeBlock post (f0, a1, a2, a3, a4, a5, a6, a7, a8, a9, a10, a11, a12) (nI n) (nI b) v := by
  have hO : A.2.2.2 b ≤ 3 := by
    obtain ⟨R, eR, ⟨_, _, _, kO, _⟩, _⟩ := h
    exact (kO b hb).1
  unfold wpX_writeBlock
  dsimp only
  refine sd_take hn hb (Or.inr rfl) h (fun s' hI hl hx => ?_)
  obtain ⟨g0, g1, g2, g3, g4, g5, g6, g7, g8, g9, g10, g11, g12⟩ := s'
  obtain ⟨R, eR, hK, h7⟩ := hI
  rw [eR]
  dsimp only
  refine sd_bringIn hn hb hK (sd_tk_own hO) hl (fun i a3' a4' a5' a9' a10' a11' a12' hi hK' e9 => ?_)
  dsimp only
  have hR := hK.1
  have cl : (nI (n * 8 + i)).toNatClampNeg = n * 8 + i := nI_clamp (by omega)
  refine ⟨pk_in (n * 8 + i) 24 (by omega), nm_r (congrArg (fun t => upd a10' t v) cl) ⟨pk_in (n * 8 + i) 24 (by omega), nm_r (congrArg (fun t => upd a11' t 1) cl) (P _ ⟨R, rfl, ?_, h7⟩)⟩⟩
  exact sd_K_wr hK' hn hi hb e9 (sd_tk_own hO) (fun m hm hne => hx rfl m hm hne)
end
end
section
/-! PART 8: the public methods against the picture's own -/
def sd_lo (n : Nat) (A : sd_A) : sd_A := (upd A.1 n 0, A.2.1, sd_loV n A.2.1 A.2.2.1 A.2.2.2, sd_flO n A.2.2.2)
def sd_lt (n : Nat) (A : sd_A) : sd_A := (upd A.1 n 0, sd_flH n A.2.1 A.2.2.1 A.2.2.2, A.2.2.1, sd_flO n A.2.2.2)
def sd_re (n : Nat) (A : sd_A) : sd_A := (upd A.1 n 1, A.2.1, A.2.2.1, A.2.2.2)
def sd_pci (i : Nat) (A : sd_A) : sd_A := (fun m => if m < i then 0 else A.1 m, A.2.1, fun c => if A.2.2.2 c < i then A.2.1 c else A.2.2.1 c, fun c => if A.2.2.2 c < i then 3 else A.2.2.2 c)
def sd_pc (A : sd_A) : sd_A := (fun _ => 1, (sd_pci 3 A).2)
def sd_sw (n a b : Nat) (A : sd_A) : sd_A := sd_wr n b (A.2.2.1 a) (sd_wr n a (A.2.2.1 b) (sd_tk n b (sd_tk n a A)))
noncomputable def sd_mr (n b : Nat) (A : sd_A) : Int32 × sd_A := if A.1 n = 0 then (-3, A) else (A.2.2.1 b, sd_tk n b A)
noncomputable def sd_mw (n b : Nat) (v : Int32) (A : sd_A) : Int32 × sd_A := if A.1 n = 0 then (-3, A) else (nI (sd_cn (sd_wr n b v A).2.2.2 n), sd_wr n b v A)
noncomputable def sd_ms (n a b : Nat) (A : sd_A) : Int32 × sd_A := if A.1 n = 0 then (-3, A) else (nI (sd_cn (sd_sw n a b A).2.2.2 n), sd_sw n a b A)
noncomputable def sd_my (n : Nat) (A : sd_A) : Int32 × sd_A := if A.1 n = 0 then (-3, A) else (nI (sd_cn A.2.2.2 n), sd_fl n A)
noncomputable def sd_mc (n : Nat) (A : sd_A) : Int32 × sd_A := if A.1 n = 0 then (-3, A) else (nI (sd_cn A.2.2.2 n), sd_lo n A)
noncomputable def sd_ml (n : Nat) (A : sd_A) : Int32 × sd_A := if A.1 n = 0 then (-3, A) else (nI (sd_cn A.2.2.2 n), sd_lt n A)
noncomputable def sd_mx (n : Nat) (A : sd_A) : Int32 × sd_A := if A.1 n = 0 then (1, sd_re n A) else (0, sd_re n A)
noncomputable def sd_mp (A : sd_A) : Int32 × sd_A := (nI (sd_ct (fun c => A.2.2.2 c < 3) 16), sd_pc A)
section
variable {R n c k a b i : Nat} {f0 x y z v : Int32} {A : sd_A} {a1 a2 a3 a4 a5 a6 a7 a8 a9 a10 a11 a12 : Nat → Int32}
theorem sd_badNode {post : Int32 → Prop} (hn : n < 3) (P : post 0) : wpX_badNode post () (nI n) :=
  br_f (nI_pos (by omega)) (br_t (nI_lt (b := 3) hn (by decide)) P)
theorem sd_badBlock {post : Int32 → Prop} (hb : b < 16) (P : post 0) : wpX_badBlock post () (nI b) :=
  br_f (nI_pos (by omega)) (br_t (nI_lt (b := 16) hb (by decide)) P)
theorem sd_I_U (hn : n < 3) (h : sd_I (f0, a1, a2, a3, a4, a5, a6, a7, a8, a9, a10, a11, a12) A) : a1 n = A.1 n := by
  obtain ⟨R, eR, ⟨_, k1, _⟩, _⟩ := h
  exact k1 n hn
theorem sd_I_O (hb : b < 16) (h : sd_I (f0, a1, a2, a3, a4, a5, a6, a7, a8, a9, a10, a11, a12) A) : A.2.2.2 b ≤ 3 := by
  obtain ⟨R, eR, ⟨_, _, _, kO, _⟩, _⟩ := h
  exact (kO b hb).1
theorem sd_unsafeCountI {post : Int32 → Prop} (hn : n < 3) (h : sd_I (f0, a1, a2, a3, a4, a5, a6, a7, a8, a9, a10, a11, a12) A) (P : post (nI (sd_cn A.2.2.2 n))) : wpX_unsafeCount post (f0, a1, a2, a3, a4, a5, a6, a7, a8, a9, a10, a11, a12) (nI n) := by
  obtain ⟨R, eR, hK, _⟩ := h
  rw [eR]
  exact sd_unsafeCount hn hK P
theorem sd_read {post : Int32 → St1 → Prop} (hn : n < 3) (hb : b < 16) (h : sd_I (f0, a1, a2, a3, a4, a5, a6, a7, a8, a9, a10, a11, a12) A) (P : ∀ s', sd_I s' (sd_mr n b A).2 → post (sd_mr n b A).1 s') :
    wpX_read post (f0, a1, a2, a3, a4, a5, a6, a7, a8, a9, a10, a11, a12) (nI n) (nI b) := by
  have kU := sd_I_U hn h
  unfold wpX_read
  dsimp only
  refine sd_badNode hn (br_t rfl (sd_badBlock hb (br_t rfl ⟨pk_in n 3 hn, ?_⟩)))
  rw [nI_clamp (n := n) (by omega), kU]
  refine br_c (fun e => ?_) (fun e => sd_readBlock hn hb h (fun s' hI => ?_))
  · have q : sd_mr n b A = (-3, A) := if_pos e
    rw [q] at P
    exact P _ h
  · have q : sd_mr n b A = (A.2.2.1 b, sd_tk n b A) := if_neg e
    rw [q] at P
    obtain ⟨g0, g1, g2, g3, g4, g5, g6, g7, g8, g9, g10, g11, g12⟩ := s'
    exact P _ hI
theorem sd_write {post : Int32 → St1 → Prop} (hn : n < 3) (hb : b < 16) (h : sd_I (f0, a1, a2, a3, a4, a5, a6, a7, a8, a9, a10, a11, a12) A) (P : ∀ s', sd_I s' (sd_mw n b v A).2 → post (sd_mw n b v A).1 s') :
    wpX_write post (f0, a1, a2, a3, a4, a5, a6, a7, a8, a9, a10, a11, a12) (nI n) (nI b) v := by
  have kU := sd_I_U hn h
  unfold wpX_write
  dsimp only
  refine sd_badNode hn (br_t rfl (sd_badBlock hb (br_t rfl ⟨pk_in n 3 hn, ?_⟩)))
  rw [nI_clamp (n := n) (by omega), kU]
  refine br_c (fun e => ?_) (fun e => sd_writeBlock hn hb h (fun s' hI => ?_))
  · have q : sd_mw n b v A = (-3, A) := if_pos e
    rw [q] at P
    exact P _ h
  · have q : sd_mw n b v A = (nI (sd_cn (sd_wr n b v A).2.2.2 n), sd_wr n b v A) := if_neg e
    rw [q] at P
    obtain ⟨g0, g1, g2, g3, g4, g5, g6, g7, g8, g9, g10, g11, g12⟩ := s'
    exact sd_unsafeCountI hn hI (P _ hI)
theorem sd_swap {post : Int32 → St1 → Prop} (hn : n < 3) (ha : a < 16) (hb : b < 16) (h : sd_I (f0, a1, a2, a3, a4, a5, a6, a7, a8, a9, a10, a11, a12) A) (P : ∀ s', sd_I s' (sd_ms n a b A).2 → post (sd_ms n a b A).1 s') :
    wpX_swap post (f0, a1, a2, a3, a4, a5, a6, a7, a8, a9, a10, a11, a12) (nI n) (nI a) (nI b) := by
  have kU := sd_I_U hn h
  unfold wpX_swap
  dsimp only
  refine sd_badNode hn (br_t rfl (sd_badBlock ha (br_t rfl (sd_badBlock hb (br_t rfl ⟨pk_in n 3 hn, ?_⟩)))))
  rw [nI_clamp (n := n) (by omega), kU]
  refine br_c (fun e => ?_) (fun e => sd_readBlock hn ha h (fun s1 h1 => ?_))
  · have q : sd_ms n a b A = (-3, A) := if_pos e
    rw [q] at P
    exact P _ h
  · have q : sd_ms n a b A = (nI (sd_cn (sd_sw n a b A).2.2.2 n), sd_sw n a b A) := if_neg e
    rw [q] at P
    obtain ⟨g0, g1, g2, g3, g4, g5, g6, g7, g8, g9, g10, g11, g12⟩ := s1
    refine sd_readBlock hn hb h1 (fun s2 h2 => ?_)
    rw [show (sd_tk n a A).2.2.1 = A.2.2.1 from sd_tk_V]
    obtain ⟨p0, p1, p2, p3, p4, p5, p6, p7, p8, p9, p10, p11, p12⟩ := s2
    refine sd_writeBlock hn ha h2 (fun s3 h3 => ?_)
    obtain ⟨q0, q1, q2, q3, q4, q5, q6, q7, q8, q9, q10, q11, q12⟩ := s3
    refine sd_writeBlock hn hb h3 (fun s4 h4 => ?_)
    obtain ⟨r0, r1, r2, r3, r4, r5, r6, r7, r8, r9, r10, r11, r12⟩ := s4
    exact sd_unsafeCountI hn h4 (P _ h4)
theorem sd_sync {post : Int32 → St1 → Prop} (hn : n < 3) (h : sd_I (f0, a1, a2, a3, a4, a5, a6, a7, a8, a9, a10, a11, a12) A) (P : ∀ s', sd_I s' (sd_my n A).2 → post (sd_my n A).1 s') :
    wpX_sync post (f0, a1, a2, a3, a4, a5, a6, a7, a8, a9, a10, a11, a12) (nI n) := by
  have kU := sd_I_U hn h
  unfold wpX_sync
  dsimp only
  refine sd_badNode hn (br_t rfl ⟨pk_in n 3 hn, ?_⟩)
  rw [nI_clamp (n := n) (by omega), kU]
  refine br_c (fun e => ?_) (fun e => ?_)
  · have q : sd_my n A = (-3, A) := if_pos e
    rw [q] at P
    exact P _ h
  · have q : sd_my n A = (nI (sd_cn A.2.2.2 n), sd_fl n A) := if_neg e
    rw [q] at P
    obtain ⟨R, eR, hK, h7⟩ := h
    rw [eR]
    exact sd_makeSafe hn hK h7 (fun a2' a3' a4' a5' a6' a7' a11' hK' h7' => P _ ⟨R, rfl, hK', h7'⟩)
theorem sd_dieI {post : St1 → Prop} (hn : n < 3) (h : sd_I (f0, a1, a2, a3, a4, a5, a6, a7, a8, a9, a10, a11, a12) A) (P : ∀ s', sd_I s' (sd_lo n A) → post s') : wpX_die post (f0, a1, a2, a3, a4, a5, a6, a7, a8, a9, a10, a11, a12) (nI n) := by
  obtain ⟨R, eR, hK, h7⟩ := h
  rw [eR]
  exact sd_die0 hn hK h7 P
theorem sd_crash {post : Int32 → St1 → Prop} (hn : n < 3) (h : sd_I (f0, a1, a2, a3, a4, a5, a6, a7, a8, a9, a10, a11, a12) A) (P : ∀ s', sd_I s' (sd_mc n A).2 → post (sd_mc n A).1 s') :
    wpX_crash post (f0, a1, a2, a3, a4, a5, a6, a7, a8, a9, a10, a11, a12) (nI n) := by
  have kU := sd_I_U hn h
  unfold wpX_crash
  dsimp only
  refine sd_badNode hn (br_t rfl ⟨pk_in n 3 hn, ?_⟩)
  rw [nI_clamp (n := n) (by omega), kU]
  refine br_c (fun e => ?_) (fun e => ?_)
  · have q : sd_mc n A = (-3, A) := if_pos e
    rw [q] at P
    exact P _ h
  · have q : sd_mc n A = (nI (sd_cn A.2.2.2 n), sd_lo n A) := if_neg e
    rw [q] at P
    refine sd_unsafeCountI hn h (sd_dieI hn h (fun s' h' => ?_))
    obtain ⟨g0, g1, g2, g3, g4, g5, g6, g7, g8, g9, g10, g11, g12⟩ := s'
    exact P _ h'
theorem sd_crashInSync {post : Int32 → St1 → Prop} (hn : n < 3) (h : sd_I (f0, a1, a2, a3, a4, a5, a6, a7, a8, a9, a10, a11, a12) A)
    (P0 : x = 0 → ∀ s', sd_I s' (sd_mc n A).2 → post (sd_mc n A).1 s') (P1 : ¬ x = 0 → ∀ s', sd_I s' (sd_ml n A).2 → post (sd_ml n A).1 s') :
    wpX_crashInSync post (f0, a1, a2, a3, a4, a5, a6, a7, a8, a9, a10, a11, a12) (nI n) x := by
  have kU := sd_I_U hn h
  unfold wpX_crashInSync
  dsimp only
  refine sd_badNode hn (br_t rfl ⟨pk_in n 3 hn, ?_⟩)
  rw [nI_clamp (n := n) (by omega), kU]
  refine br_c (fun e => ?_) (fun e => sd_unsafeCountI hn h ?_)
  · have q : sd_mc n A = (-3, A) := if_pos e
    have q' : sd_ml n A = (-3, A) := if_pos e
    rw [q] at P0
    rw [q'] at P1
    by_cases ex : x = 0
    · exact P0 ex _ h
    · exact P1 ex _ h
  · have q : sd_mc n A = (nI (sd_cn A.2.2.2 n), sd_lo n A) := if_neg e
    have q' : sd_ml n A = (nI (sd_cn A.2.2.2 n), sd_lt n A) := if_neg e
    rw [q] at P0
    rw [q'] at P1
    obtain ⟨R, eR, hK, h7⟩ := h
    rw [eR]
    refine sd_fillJournal hn hK (fun a3' a4' a5' a11' hK' hz => ?_)
    dsimp only
    refine br_c (fun ex => ?_) (fun ex => ?_)
    · unfold wX_crashInSync_41
      refine sd_die0 hn hK' h7 (fun s' h' => ?_)
      obtain ⟨g0, g1, g2, g3, g4, g5, g6, g7, g8, g9, g10, g11, g12⟩ := s'
      exact P0 ex _ h'
    · have hK'' := hK'
      obtain ⟨hR, k1, k2, kO, kL, kJ, kC, kh⟩ := hK''
      obtain ⟨c, hc, e3, h1, h2, h4⟩ := kJ n hn
      refine sd_markJournal hn hc e3 ?_
      dsimp only
      unfold wX_crashInSync_41
      refine sd_die1 hn hK' hz (fun m hm hne => ?_) ?_ hc e3 ?_ (fun s' h' => ?_)
      · rw [pk_un hne]; exact h7 m hm
      · rw [pk_us]; decide
      · rw [pk_us]
      · obtain ⟨g0, g1, g2, g3, g4, g5, g6, g7, g8, g9, g10, g11, g12⟩ := s'
        exact P1 ex _ h'
theorem sd_restart {post : Int32 → St1 → Prop} (hn : n < 3) (h : sd_I (f0, a1, a2, a3, a4, a5, a6, a7, a8, a9, a10, a11, a12) A) (P : ∀ s', sd_I s' (sd_mx n A).2 → post (sd_mx n A).1 s') :
    wpX_restart post (f0, a1, a2, a3, a4, a5, a6, a7, a8, a9, a10, a11, a12) (nI n) := by
  have kU := sd_I_U hn h
  have hI : sd_I (f0, upd a1 n 1, a2, a3, a4, a5, a6, a7, a8, a9, a10, a11, a12) (sd_re n A) := by
    obtain ⟨R, eR, hK, h7⟩ := h
    exact ⟨R, eR, sd_K_run hK, h7⟩
  unfold wpX_restart wX_restart_23
  dsimp only
  refine sd_badNode hn (br_t rfl ⟨pk_in n 3 hn, ?_⟩)
  rw [nI_clamp (n := n) (by omega), kU]
  refine br_c (fun e => ⟨pk_in n 3 hn, nm_e ?_⟩) (fun e => ⟨pk_in n 3 hn, nm_e ?_⟩)
  · have q : sd_mx n A = (1, sd_re n A) := if_pos e
    rw [q] at P
    exact P _ hI
  · have q : sd_mx n A = (0, sd_re n A) := if_neg e
    rw [q] at P
    exact P _ hI
theorem sd_pci_s (hi : i < 3) (hO : ∀ c, A.2.2.2 c < i → True) : sd_lo i (sd_pci i A) = sd_pci (i + 1) A := by
  have e1 : upd (sd_pci i A).1 i 0 = (sd_pci (i + 1) A).1 := by
    funext m
    show (if m = i then 0 else (if m < i then 0 else A.1 m)) = (if m < i + 1 then 0 else A.1 m)
    by_cases e : m = i
    · rw [if_pos e, if_pos (by omega)]
    · rw [if_neg e]
      by_cases e2 : m < i
      · rw [if_pos e2, if_pos (by omega)]
      · rw [if_neg e2, if_neg (by omega)]
  have e2 : sd_loV i (sd_pci i A).2.1 (sd_pci i A).2.2.1 (sd_pci i A).2.2.2 = (sd_pci (i + 1) A).2.2.1 := by
    funext c
    show (if (if A.2.2.2 c < i then 3 else A.2.2.2 c) = i then A.2.1 c else (if A.2.2.2 c < i then A.2.1 c else A.2.2.1 c)) = (if A.2.2.2 c < i + 1 then A.2.1 c else A.2.2.1 c)
    by_cases e : A.2.2.2 c < i
    · rw [if_pos e, if_pos e, if_neg (by omega), if_pos (by omega)]
    · rw [if_neg e, if_neg e]
      by_cases e2 : A.2.2.2 c = i
      · rw [if_pos e2, if_pos (by omega)]
      · rw [if_neg e2, if_neg (by omega)]
  have e3 : sd_flO i (sd_pci i A).2.2.2 = (sd_pci (i + 1) A).2.2.2 := by
    funext c
    show (if (if A.2.2.2 c < i then 3 else A.2.2.2 c) = i then 3 else (if A.2.2.2 c < i then 3 else A.2.2.2 c)) = (if A.2.2.2 c < i + 1 then 3 else A.2.2.2 c)
    by_cases e : A.2.2.2 c < i
    · rw [if_pos e, if_neg (by omega), if_pos (by omega)]
    · rw [if_neg e]
      by_cases e2 : A.2.2.2 c = i
      · rw [if_pos e2, if_pos (by omega)]
      · rw [if_neg e2, if_neg (by omega)]
  show (upd (sd_pci i A).1 i 0, (sd_pci i A).2.1, sd_loV i (sd_pci i A).2.1 (sd_pci i A).2.2.1 (sd_pci i A).2.2.2, sd_flO i (sd_pci i A).2.2.2) = _
  rw [e1, e2, e3]
  rfl
theorem sd_pci_c (hi : i < 3) : sd_ct (fun c => A.2.2.2 c < i) 16 + sd_cn (sd_pci i A).2.2.2 i = sd_ct (fun c => A.2.2.2 c < i + 1) 16 := by
  refine (sd_ct_or 16 (fun c _ => ?_)).symm
  have q : ((sd_pci i A).2.2.2 c = i) ↔ A.2.2.2 c = i := by
    show ((if A.2.2.2 c < i then 3 else A.2.2.2 c) = i) ↔ _
    by_cases e : A.2.2.2 c < i
    · rw [if_pos e]; omega
    · rw [if_neg e]
  rw [q]
  omega
theorem sd_pc30 {post : Int32 → St1 → Prop} (h : sd_I (f0, a1, a2, a3, a4, a5, a6, a7, a8, a9, a10, a11, a12) A) (P : ∀ s', sd_I s' (fun _ => 1, A.2) → post x s') : ∃ f, wX_powerCut_30 post x f0 f 0 a1 a2 a3 a4 a5 a6 a7 a8 a9 a10 a11 a12 := by
  refine pk_loop (σ := Nat → Int32) (fun f i s => wX_powerCut_30 post x f0 f (nI i) s a2 a3 a4 a5 a6 a7 a8 a9 a10 a11 a12) (fun i s => ∀ m, m < i → s m = 1) 3 0 a1 (by omega) (fun m hm => absurd hm (by omega)) (fun f s hI => ?_) (fun f i s hi hI hw => ?_)
  · refine pk_le 3 3 (fun _ => P _ ?_) (fun w => absurd w (by omega))
    obtain ⟨R, eR, ⟨hR, k1, k2, kO, kL, kJ, kC, kh⟩, h7⟩ := h
    exact ⟨R, eR, ⟨hR, hI, k2, kO, kL, kJ, kC, kh⟩, h7⟩
  · refine pk_le 3 i (fun w => absurd w (by omega)) (fun _ => ⟨pk_in i 3 hi, nm_r (congrArg (fun t => upd s t 1) (nI_clamp (by omega))) (nm_r (nI_1 i) (hw _ (fun m hm => ?_)))⟩)
    by_cases e : m = i
    · rw [e, pk_us]
    · rw [pk_un e]; exact hI m (by omega)
theorem sd_powerCut {post : Int32 → St1 → Prop} (h : sd_I (f0, a1, a2, a3, a4, a5, a6, a7, a8, a9, a10, a11, a12) A) (P : ∀ s', sd_I s' (sd_mp A).2 → post (sd_mp A).1 s') : wpX_powerCut post (f0, a1, a2, a3, a4, a5, a6, a7, a8, a9, a10, a11, a12) := by
  unfold wpX_powerCut
  dsimp only
  refine pk_loop (σ := Int32 × St1) (fun f i s => match s with | (x, f0, a1, a2, a3, a4, a5, a6, a7, a8, a9, a10, a11, a12) => wX_powerCut_4 post f x (nI i) f0 a1 a2 a3 a4 a5 a6 a7 a8 a9 a10 a11 a12)
    (fun i s => s.1 = nI (sd_ct (fun c => A.2.2.2 c < i) 16) ∧ sd_I s.2 (sd_pci i A)) 3 0 (0, f0, a1, a2, a3, a4, a5, a6, a7, a8, a9, a10, a11, a12) (by omega) ⟨?_, ?_⟩ (fun f s hI => ?_) (fun f i s hi hI hw => ?_)
  · show (0 : Int32) = _
    rw [sd_ct_0 16 (fun c _ w => absurd w (by omega)), nI_0]
  · exact h
  · obtain ⟨x, g0, g1, g2, g3, g4, g5, g6, g7, g8, g9, g10, g11, g12⟩ := s
    obtain ⟨ex, hI⟩ := hI
    dsimp only at ex hI
    refine pk_le 3 3 (fun _ => sd_pc30 hI (fun s' h' => ?_)) (fun w => absurd w (by omega))
    rw [ex]
    exact P s' h'
  · obtain ⟨x, g0, g1, g2, g3, g4, g5, g6, g7, g8, g9, g10, g11, g12⟩ := s
    obtain ⟨ex, hI⟩ := hI
    dsimp only at ex hI
    refine pk_le 3 i (fun w => absurd w (by omega)) (fun _ => sd_unsafeCountI hi hI (nm_e (sd_dieI hi hI (fun s' h' => ?_))))
    obtain ⟨q0, q1, q2, q3, q4, q5, q6, q7, q8, q9, q10, q11, q12⟩ := s'
    refine nm_r (nI_1 i) (hw (_, q0, q1, q2, q3, q4, q5, q6, q7, q8, q9, q10, q11, q12) ⟨?_, ?_⟩)
    · show x + nI _ = _
      rw [ex, nI_add, sd_pci_c hi]
    · rw [← sd_pci_s hi (fun _ _ => trivial)]; exact h'
/-! questions -/
theorem sd_ownerOf {post : Int32 → Prop} (hb : b < 16) (h : sd_I (f0, a1, a2, a3, a4, a5, a6, a7, a8, a9, a10, a11, a12) A) (P1 : A.2.2.2 b < 3 → post (nI (A.2.2.2 b))) (P0 : A.2.2.2 b = 3 → post (-4)) :
    wpX_ownerOf post (f0, a1, a2, a3, a4, a5, a6, a7, a8, a9, a10, a11, a12) (nI b) := by
  have hO := sd_I_O hb h
  obtain ⟨R, eR, hK, h7⟩ := h
  rw [eR]
  unfold wpX_ownerOf
  dsimp only
  refine pk_loop (σ := Unit) (fun f i _ => wX_ownerOf_2 post (nI b) (nI R) a1 a2 a3 a4 a5 a6 a7 a8 a9 a10 a11 a12 f (nI i)) (fun i _ => i ≤ A.2.2.2 b) 3 0 () (by omega) (by omega) (fun f _ hI => ?_) (fun f i _ hi hI hw => ?_)
  · exact pk_le 3 3 (fun _ => P0 (by omega)) (fun w => absurd w (by omega))
  · refine pk_le 3 i (fun w => absurd w (by omega)) (fun _ => sd_isUnsafe hi hb hK (fun e => br_f (by decide) ?_) (fun e => br_t rfl (nm_r (nI_1 i) (hw () ?_))))
    · rw [← e]; exact P1 (by omega)
    · omega
def sd_ow (o : Nat) : Int32 := if o < 3 then nI o else -4
theorem sd_owner {post : Int32 → Prop} (hb : b < 16) (h : sd_I (f0, a1, a2, a3, a4, a5, a6, a7, a8, a9, a10, a11, a12) A) (P : post (sd_ow (A.2.2.2 b))) : wpX_owner post (f0, a1, a2, a3, a4, a5, a6, a7, a8, a9, a10, a11, a12) (nI b) := by
  unfold wpX_owner
  dsimp only
  refine sd_badBlock hb (br_t rfl (sd_ownerOf hb h (fun w => ?_) (fun w => ?_)))
  · have q : sd_ow (A.2.2.2 b) = nI (A.2.2.2 b) := if_pos w
    rw [q] at P; exact P
  · have q : sd_ow (A.2.2.2 b) = -4 := if_neg (by omega)
    rw [q] at P; exact P
theorem sd_safe {post : Int32 → Prop} (hb : b < 16) (h : sd_I (f0, a1, a2, a3, a4, a5, a6, a7, a8, a9, a10, a11, a12) A) (P : post (A.2.1 b)) : wpX_safe post (f0, a1, a2, a3, a4, a5, a6, a7, a8, a9, a10, a11, a12) (nI b) := by
  have e : a2 b = A.2.1 b := by
    obtain ⟨R, eR, ⟨_, _, k2, _⟩, _⟩ := h
    exact k2 b hb
  unfold wpX_safe
  dsimp only
  refine sd_badBlock hb (br_t rfl ⟨pk_in b 16 hb, ?_⟩)
  rw [nI_clamp (n := b) (by omega), e]
  exact P
theorem sd_content {post : Int32 → Prop} (hb : b < 16) (h : sd_I (f0, a1, a2, a3, a4, a5, a6, a7, a8, a9, a10, a11, a12) A) (P : post (A.2.2.1 b)) : wpX_content post (f0, a1, a2, a3, a4, a5, a6, a7, a8, a9, a10, a11, a12) (nI b) := by
  have h' := h
  obtain ⟨R, eR, ⟨hR, k1, k2, kO, kL, kJ, kC, kh⟩, h7⟩ := h'
  unfold wpX_content
  dsimp only
  refine sd_badBlock hb (br_t rfl (sd_ownerOf hb h (fun w => ?_) (fun w => ?_)))
  · obtain ⟨c, hc, e3, h1, h2, h4⟩ := kJ _ w
    rw [eR]
    refine br_t (nI_pos' (by omega)) (sd_cached w hR.2 (fun hnc => br_t (by decide) (sd_journaled w hc e3 (fun hno => ?_) (fun j hj e => ?_))) (fun i hi e9 => br_f (nI_pos (by omega)) ⟨pk_in (A.2.2.2 b * 8 + i) 24 (by omega), ?_⟩))
    · rcases h4 b hb rfl with ⟨j, hj, e⟩ | ⟨j, hj, e, _⟩
      · exact absurd e (hno j hj)
      · exact absurd e (hnc j hj)
    · refine br_t (nI_pos' (by omega)) ⟨pk_in (A.2.2.2 b * 16 + j) 48 (by omega), ?_⟩
      obtain ⟨b', hb', q4, qo, qv⟩ := h1 j hj
      have eb := sd_inj hb' hb (q4.symm.trans e)
      rw [eb] at qv
      rw [nI_clamp (by omega), qv.resolve_right (fun ⟨t, ht, et, _⟩ => hnc t ht et)]
      exact P
    · rw [nI_clamp (by omega), (sd_cell (kC _ w) (by omega) hb e9).2.1]
      exact P
  · refine br_f (by decide) ⟨pk_in b 16 hb, ?_⟩
    rw [nI_clamp (by omega), k2 b hb, ← (kO b hb).2 w]
    exact P
theorem sd_unsafe {post : Int32 → Prop} (hn : n < 3) (h : sd_I (f0, a1, a2, a3, a4, a5, a6, a7, a8, a9, a10, a11, a12) A) (P : post (nI (sd_cn A.2.2.2 n))) : wpX_unsafe post (f0, a1, a2, a3, a4, a5, a6, a7, a8, a9, a10, a11, a12) (nI n) := by
  unfold wpX_unsafe
  dsimp only
  exact sd_badNode hn (br_t rfl (sd_unsafeCountI hn h P))
theorem sd_isUp {post : Int32 → Prop} (hn : n < 3) (h : sd_I (f0, a1, a2, a3, a4, a5, a6, a7, a8, a9, a10, a11, a12) A) (P0 : A.1 n = 0 → post 0) (P1 : ¬ A.1 n = 0 → post 1) : wpX_up post (f0, a1, a2, a3, a4, a5, a6, a7, a8, a9, a10, a11, a12) (nI n) := by
  have kU := sd_I_U hn h
  unfold wpX_up
  dsimp only
  refine sd_badNode hn (br_t rfl ⟨pk_in n 3 hn, ?_⟩)
  rw [nI_clamp (n := n) (by omega), kU]
  exact br_c P0 P1
end
end
section
/-! PART 9: renaming blocks (xor a mask) and nodes (plus a shift, mod 3): the picture's steps commute with it -/
theorem sd_xor (a b : Nat) : nI a ^^^ nI b = nI (a ^^^ b) := by
  apply Int32.toBitVec_inj.1
  show BitVec.ofNat 32 a ^^^ BitVec.ofNat 32 b = BitVec.ofNat 32 (a ^^^ b)
  apply BitVec.eq_of_getLsbD_eq
  intro i hi
  simp [hi]
theorem sd_xlt {c mk : Nat} (hc : c < 16) (hm : mk < 16) : c ^^^ mk < 16 := Nat.xor_lt_two_pow (n := 4) hc hm
theorem sd_xx (c mk : Nat) : (c ^^^ mk) ^^^ mk = c := by
  rw [Nat.xor_assoc, Nat.xor_self, Nat.xor_zero]
theorem sd_xinj {c b mk : Nat} (h : c ^^^ mk = b ^^^ mk) : c = b := by
  have q := congrArg (fun t => t ^^^ mk) h
  rw [sd_xx, sd_xx] at q
  exact q
def sd_pi (sh n : Nat) : Nat := if n < 3 then (n + sh) % 3 else n
theorem sd_pi_t {sh n : Nat} (hn : n < 3) : sd_pi sh n = (n + sh) % 3 := if_pos hn
theorem sd_pi_3 {sh : Nat} : sd_pi sh 3 = 3 := rfl
theorem sd_pi_lt {sh n : Nat} (hn : n < 3) : sd_pi sh n < 3 := by
  rw [sd_pi_t hn]; omega
theorem sd_pi_inj {sh x y : Nat} (hx : x ≤ 3) (hy : y ≤ 3) : sd_pi sh x = sd_pi sh y ↔ x = y := by
  by_cases ex : x < 3
  · by_cases ey : y < 3
    · rw [sd_pi_t ex, sd_pi_t ey]; omega
    · have e : y = 3 := by omega
      have := sd_pi_lt (sh := sh) ex
      rw [e, sd_pi_3]; omega
  · have e : x = 3 := by omega
    by_cases ey : y < 3
    · have := sd_pi_lt (sh := sh) ey
      rw [e, sd_pi_3]; omega
    · have e' : y = 3 := by omega
      rw [e, e']
      exact ⟨fun _ => rfl, fun _ => rfl⟩
theorem sd_pi_l3 {sh x : Nat} (hx : x ≤ 3) : sd_pi sh x < 3 ↔ x < 3 := by
  by_cases ex : x < 3
  · exact ⟨fun _ => ex, fun _ => sd_pi_lt ex⟩
  · have e : x = 3 := by omega
    rw [e, sd_pi_3]
theorem sd_rem {sh n : Nat} (hn : n < 3) (hs : sh < 3) : (nI n + nI sh) - (nI n + nI sh) / 3 * 3 = nI (sd_pi sh n) := by
  rw [sd_pi_t hn, nI_add]
  exact pk_rem (d := 3) (by omega) (by omega) (by omega)
/-! counting through a mask -/
noncomputable def sd_g (p : Nat → Prop) (k : Nat) : Nat := @ite Nat (p k) (Classical.propDecidable (p k)) 1 0
theorem sd_ct_16 (p : Nat → Prop) : sd_ct p 16 = sd_g p 0 + sd_g p 1 + sd_g p 2 + sd_g p 3 + sd_g p 4 + sd_g p 5 + sd_g p 6 + sd_g p 7 + sd_g p 8 + sd_g p 9 + sd_g p 10 + sd_g p 11 + sd_g p 12 + sd_g p 13 + sd_g p 14 + sd_g p 15 := by
  show 0 + sd_g p 0 + sd_g p 1 + sd_g p 2 + sd_g p 3 + sd_g p 4 + sd_g p 5 + sd_g p 6 + sd_g p 7 + sd_g p 8 + sd_g p 9 + sd_g p 10 + sd_g p 11 + sd_g p 12 + sd_g p 13 + sd_g p 14 + sd_g p 15 = _
  rw [Nat.zero_add]
theorem sd_g_x (p : Nat → Prop) (mk k : Nat) : sd_g (fun c => p (c ^^^ mk)) k = sd_g p (k ^^^ mk) := rfl
theorem sd_ct_x (p : Nat → Prop) {mk : Nat} (hm : mk < 16) : sd_ct (fun c => p (c ^^^ mk)) 16 = sd_ct p 16 := by
  have cases16 : mk = 0 ∨ mk = 1 ∨ mk = 2 ∨ mk = 3 ∨ mk = 4 ∨ mk = 5 ∨ mk = 6 ∨ mk = 7 ∨ mk = 8 ∨ mk = 9 ∨ mk = 10 ∨ mk = 11 ∨ mk = 12 ∨ mk = 13 ∨ mk = 14 ∨ mk = 15 := by omega
  rcases cases16 with e | e | e | e | e | e | e | e | e | e | e | e | e | e | e | e
  all_goals
    rw [e, sd_ct_16, sd_ct_16]
    simp only [sd_g_x, Nat.reduceXor]
    try omega
/-- the relation between the two pictures -/
def sd_E (mk sh : Nat) (A B : sd_A) : Prop :=
  (∀ n, n < 3 → B.1 (sd_pi sh n) = A.1 n) ∧ ∀ c, c < 16 → A.2.2.2 c ≤ 3 ∧ B.2.1 (c ^^^ mk) = A.2.1 c ∧ B.2.2.1 (c ^^^ mk) = A.2.2.1 c ∧ B.2.2.2 (c ^^^ mk) = sd_pi sh (A.2.2.2 c)
def sd_E2 (mk sh : Nat) (X Y : Int32 × sd_A) : Prop := Y.1 = X.1 ∧ sd_E mk sh X.2 Y.2
section
variable {mk sh n m a b : Nat} {v : Int32} {A B : sd_A}
theorem sd_E_fl (E : sd_E mk sh A B) (hm : m ≤ 3) : sd_E mk sh (sd_fl m A) (sd_fl (sd_pi sh m) B) := by
  obtain ⟨e1, e2⟩ := E
  refine ⟨e1, fun c hc => ?_⟩
  obtain ⟨q0, q1, q2, q3⟩ := e2 c hc
  show sd_flO m A.2.2.2 c ≤ 3 ∧ sd_flH (sd_pi sh m) B.2.1 B.2.2.1 B.2.2.2 (c ^^^ mk) = sd_flH m A.2.1 A.2.2.1 A.2.2.2 c ∧ B.2.2.1 (c ^^^ mk) = A.2.2.1 c ∧ sd_flO (sd_pi sh m) B.2.2.2 (c ^^^ mk) = sd_pi sh (sd_flO m A.2.2.2 c)
  by_cases e : A.2.2.2 c = m
  · have e' : B.2.2.2 (c ^^^ mk) = sd_pi sh m := by rw [q3, e]
    rw [sd_flO_t e, sd_flO_t e', sd_flH_t e, sd_flH_t e', sd_pi_3]
    exact ⟨by omega, q2, q2, rfl⟩
  · have e' : ¬ B.2.2.2 (c ^^^ mk) = sd_pi sh m := by
      rw [q3, sd_pi_inj q0 hm]; exact e
    rw [sd_flO_f e, sd_flO_f e', sd_flH_f e, sd_flH_f e']
    exact ⟨q0, q1, q2, q3⟩
theorem sd_E_lt (E : sd_E mk sh A B) (hm : m < 3) : sd_E mk sh (sd_lt m A) (sd_lt (sd_pi sh m) B) := by
  obtain ⟨e1, e2⟩ := E
  refine ⟨fun n hn => ?_, (sd_E_fl ⟨e1, e2⟩ (by omega)).2⟩
  show upd B.1 (sd_pi sh m) 0 (sd_pi sh n) = upd A.1 m 0 n
  by_cases e : n = m
  · rw [e, pk_us, pk_us]
  · rw [pk_un e, pk_un (fun w => e ((sd_pi_inj (by omega) (by omega)).mp w)), e1 n hn]
theorem sd_E_lo (E : sd_E mk sh A B) (hm : m < 3) : sd_E mk sh (sd_lo m A) (sd_lo (sd_pi sh m) B) := by
  obtain ⟨e1, e2⟩ := E
  refine ⟨fun n hn => ?_, fun c hc => ?_⟩
  · show upd B.1 (sd_pi sh m) 0 (sd_pi sh n) = upd A.1 m 0 n
    by_cases e : n = m
    · rw [e, pk_us, pk_us]
    · rw [pk_un e, pk_un (fun w => e ((sd_pi_inj (by omega) (by omega)).mp w)), e1 n hn]
  · obtain ⟨q0, q1, q2, q3⟩ := e2 c hc
    show sd_flO m A.2.2.2 c ≤ 3 ∧ B.2.1 (c ^^^ mk) = A.2.1 c ∧ sd_loV (sd_pi sh m) B.2.1 B.2.2.1 B.2.2.2 (c ^^^ mk) = sd_loV m A.2.1 A.2.2.1 A.2.2.2 c ∧ sd_flO (sd_pi sh m) B.2.2.2 (c ^^^ mk) = sd_pi sh (sd_flO m A.2.2.2 c)
    by_cases e : A.2.2.2 c = m
    · have e' : B.2.2.2 (c ^^^ mk) = sd_pi sh m := by rw [q3, e]
      rw [sd_flO_t e, sd_flO_t e', sd_loV_t e, sd_loV_t e', sd_pi_3]
      exact ⟨by omega, q1, q1, rfl⟩
    · have e' : ¬ B.2.2.2 (c ^^^ mk) = sd_pi sh m := by
        rw [q3, sd_pi_inj q0 (by omega)]; exact e
      rw [sd_flO_f e, sd_flO_f e', sd_loV_f e, sd_loV_f e']
      exact ⟨q0, q1, q2, q3⟩
theorem sd_E_re (E : sd_E mk sh A B) (hm : m < 3) : sd_E mk sh (sd_re m A) (sd_re (sd_pi sh m) B) := by
  obtain ⟨e1, e2⟩ := E
  refine ⟨fun n hn => ?_, e2⟩
  show upd B.1 (sd_pi sh m) 1 (sd_pi sh n) = upd A.1 m 1 n
  by_cases e : n = m
  · rw [e, pk_us, pk_us]
  · rw [pk_un e, pk_un (fun w => e ((sd_pi_inj (by omega) (by omega)).mp w)), e1 n hn]
theorem sd_E_pc (E : sd_E mk sh A B) : sd_E mk sh (sd_pc A) (sd_pc B) := by
  obtain ⟨e1, e2⟩ := E
  refine ⟨fun n hn => rfl, fun c hc => ?_⟩
  obtain ⟨q0, q1, q2, q3⟩ := e2 c hc
  show (if A.2.2.2 c < 3 then 3 else A.2.2.2 c) ≤ 3 ∧ B.2.1 (c ^^^ mk) = A.2.1 c ∧ (if B.2.2.2 (c ^^^ mk) < 3 then B.2.1 (c ^^^ mk) else B.2.2.1 (c ^^^ mk)) = (if A.2.2.2 c < 3 then A.2.1 c else A.2.2.1 c)
    ∧ (if B.2.2.2 (c ^^^ mk) < 3 then 3 else B.2.2.2 (c ^^^ mk)) = sd_pi sh (if A.2.2.2 c < 3 then 3 else A.2.2.2 c)
  by_cases e : A.2.2.2 c < 3
  · have e' : B.2.2.2 (c ^^^ mk) < 3 := by
      rw [q3]; exact sd_pi_lt e
    rw [if_pos e, if_pos e', if_pos e, if_pos e', sd_pi_3]
    exact ⟨by omega, q1, q1, rfl⟩
  · have e' : ¬ B.2.2.2 (c ^^^ mk) < 3 := by
      rw [q3, sd_pi_l3 q0]; exact e
    rw [if_neg e, if_neg e', if_neg e, if_neg e']
    exact ⟨q0, q1, q2, q3⟩
theorem sd_E_tk (E : sd_E mk sh A B) (hn : n < 3) (hb : b < 16) : sd_E mk sh (sd_tk n b A) (sd_tk (sd_pi sh n) (b ^^^ mk) B) := by
  obtain ⟨q0, q1, q2, q3⟩ := E.2 b hb
  unfold sd_tk
  by_cases e1 : A.2.2.2 b = n
  · rw [sd_tki_f (Or.inl e1), sd_tki_f (Or.inl (by rw [q3, e1]))]
    exact E
  · by_cases e2 : A.2.2.2 b < 3
    · rw [sd_tki_t e1 e2, sd_tki_t (by rw [q3, sd_pi_inj q0 (by omega)]; exact e1) (by rw [q3]; exact sd_pi_lt e2), q3]
      exact sd_E_fl E q0
    · have e3 : A.2.2.2 b = 3 := by omega
      rw [sd_tki_f (Or.inr (by omega)), sd_tki_f (Or.inr (by rw [q3, e3, sd_pi_3]; omega))]
      exact E
theorem sd_E_wr (E : sd_E mk sh A B) (hn : n < 3) (hb : b < 16) : sd_E mk sh (sd_wr n b v A) (sd_wr (sd_pi sh n) (b ^^^ mk) v B) := by
  obtain ⟨e1, e2⟩ := sd_E_tk E hn hb
  refine ⟨e1, fun c hc => ?_⟩
  obtain ⟨q0, q1, q2, q3⟩ := e2 c hc
  show sd_up (sd_tk n b A).2.2.2 b n c ≤ 3 ∧ (sd_tk (sd_pi sh n) (b ^^^ mk) B).2.1 (c ^^^ mk) = (sd_tk n b A).2.1 c
    ∧ upd (sd_tk (sd_pi sh n) (b ^^^ mk) B).2.2.1 (b ^^^ mk) v (c ^^^ mk) = upd (sd_tk n b A).2.2.1 b v c
    ∧ sd_up (sd_tk (sd_pi sh n) (b ^^^ mk) B).2.2.2 (b ^^^ mk) (sd_pi sh n) (c ^^^ mk) = sd_pi sh (sd_up (sd_tk n b A).2.2.2 b n c)
  by_cases e : c = b
  · rw [e, sd_up_s, sd_up_s, pk_us, pk_us]
    rw [e] at q1
    exact ⟨by omega, q1, rfl, rfl⟩
  · have e' : c ^^^ mk ≠ b ^^^ mk := fun w => e (sd_xinj w)
    rw [sd_up_n e, sd_up_n e', pk_un e, pk_un e']
    exact ⟨q0, q1, q2, q3⟩
theorem sd_E_sw (E : sd_E mk sh A B) (hn : n < 3) (ha : a < 16) (hb : b < 16) : sd_E mk sh (sd_sw n a b A) (sd_sw (sd_pi sh n) (a ^^^ mk) (b ^^^ mk) B) := by
  unfold sd_sw
  rw [(E.2 a ha).2.2.1, (E.2 b hb).2.2.1]
  exact sd_E_wr (sd_E_wr (sd_E_tk (sd_E_tk E hn ha) hn hb) hn ha) hn hb
theorem sd_E_cn (hm : mk < 16) (E : sd_E mk sh A B) (hn : n < 3) : sd_cn B.2.2.2 (sd_pi sh n) = sd_cn A.2.2.2 n := by
  unfold sd_cn
  rw [← sd_ct_x _ hm]
  refine sd_ct_congr 16 (fun c hc => ?_)
  obtain ⟨q0, q1, q2, q3⟩ := E.2 c hc
  show B.2.2.2 (c ^^^ mk) = sd_pi sh n ↔ A.2.2.2 c = n
  rw [q3, sd_pi_inj q0 (by omega)]
theorem sd_E_cp (hm : mk < 16) (E : sd_E mk sh A B) : sd_ct (fun c => B.2.2.2 c < 3) 16 = sd_ct (fun c => A.2.2.2 c < 3) 16 := by
  rw [← sd_ct_x _ hm]
  refine sd_ct_congr 16 (fun c hc => ?_)
  obtain ⟨q0, q1, q2, q3⟩ := E.2 c hc
  show B.2.2.2 (c ^^^ mk) < 3 ↔ A.2.2.2 c < 3
  rw [q3, sd_pi_l3 q0]
theorem sd_E_mr (E : sd_E mk sh A B) (hn : n < 3) (hb : b < 16) : sd_E2 mk sh (sd_mr n b A) (sd_mr (sd_pi sh n) (b ^^^ mk) B) := by
  have eU := E.1 n hn
  unfold sd_mr
  rw [eU]
  by_cases e : A.1 n = 0
  · rw [if_pos e, if_pos e]; exact ⟨rfl, E⟩
  · rw [if_neg e, if_neg e]; exact ⟨(E.2 b hb).2.2.1, sd_E_tk E hn hb⟩
theorem sd_E_mw (hm : mk < 16) (E : sd_E mk sh A B) (hn : n < 3) (hb : b < 16) : sd_E2 mk sh (sd_mw n b v A) (sd_mw (sd_pi sh n) (b ^^^ mk) v B) := by
  have eU := E.1 n hn
  unfold sd_mw
  rw [eU]
  by_cases e : A.1 n = 0
  · rw [if_pos e, if_pos e]; exact ⟨rfl, E⟩
  · rw [if_neg e, if_neg e]; exact ⟨congrArg nI (sd_E_cn hm (sd_E_wr E hn hb) hn), sd_E_wr E hn hb⟩
theorem sd_E_ms (hm : mk < 16) (E : sd_E mk sh A B) (hn : n < 3) (ha : a < 16) (hb : b < 16) : sd_E2 mk sh (sd_ms n a b A) (sd_ms (sd_pi sh n) (a ^^^ mk) (b ^^^ mk) B) := by
  have eU := E.1 n hn
  unfold sd_ms
  rw [eU]
  by_cases e : A.1 n = 0
  · rw [if_pos e, if_pos e]; exact ⟨rfl, E⟩
  · rw [if_neg e, if_neg e]; exact ⟨congrArg nI (sd_E_cn hm (sd_E_sw E hn ha hb) hn), sd_E_sw E hn ha hb⟩
theorem sd_E_my (hm : mk < 16) (E : sd_E mk sh A B) (hn : n < 3) : sd_E2 mk sh (sd_my n A) (sd_my (sd_pi sh n) B) := by
  have eU := E.1 n hn
  unfold sd_my
  rw [eU]
  by_cases e : A.1 n = 0
  · rw [if_pos e, if_pos e]; exact ⟨rfl, E⟩
  · rw [if_neg e, if_neg e]; exact ⟨congrArg nI (sd_E_cn hm E hn), sd_E_fl E (by omega)⟩
theorem sd_E_mc (hm : mk < 16) (E : sd_E mk sh A B) (hn : n < 3) : sd_E2 mk sh (sd_mc n A) (sd_mc (sd_pi sh n) B) := by
  have eU := E.1 n hn
  unfold sd_mc
  rw [eU]
  by_cases e : A.1 n = 0
  · rw [if_pos e, if_pos e]; exact ⟨rfl, E⟩
  · rw [if_neg e, if_neg e]; exact ⟨congrArg nI (sd_E_cn hm E hn), sd_E_lo E hn⟩
theorem sd_E_ml (hm : mk < 16) (E : sd_E mk sh A B) (hn : n < 3) : sd_E2 mk sh (sd_ml n A) (sd_ml (sd_pi sh n) B) := by
  have eU := E.1 n hn
  unfold sd_ml
  rw [eU]
  by_cases e : A.1 n = 0
  · rw [if_pos e, if_pos e]; exact ⟨rfl, E⟩
  · rw [if_neg e, if_neg e]; exact ⟨congrArg nI (sd_E_cn hm E hn), sd_E_lt E hn⟩
theorem sd_E_mx (E : sd_E mk sh A B) (hn : n < 3) : sd_E2 mk sh (sd_mx n A) (sd_mx (sd_pi sh n) B) := by
  have eU := E.1 n hn
  unfold sd_mx
  rw [eU]
  by_cases e : A.1 n = 0
  · rw [if_pos e, if_pos e]; exact ⟨rfl, sd_E_re E hn⟩
  · rw [if_neg e, if_neg e]; exact ⟨rfl, sd_E_re E hn⟩
theorem sd_E_mp (hm : mk < 16) (E : sd_E mk sh A B) : sd_E2 mk sh (sd_mp A) (sd_mp B) :=
  ⟨congrArg nI (sd_E_cp hm E), sd_E_pc E⟩
end
end
section
/-! PART 10: a new object, a turn -/
def sd_A0 : sd_A := (fun _ => 1, fun _ => 0, fun _ => 0, fun _ => 3)
theorem sd_E_0 {mk sh : Nat} : sd_E mk sh sd_A0 sd_A0 := ⟨fun _ _ => rfl, fun _ _ => ⟨Nat.le_refl 3, rfl, rfl, rfl⟩⟩
theorem sd_i141 {post : St1 → Prop} {mc ms kc ks r : Nat} {a1 a9 : Nat → Int32} (hr : 2 ≤ r) (hr8 : r ≤ 8) (h9 : ∀ k, k < 24 → a9 k = -1) (P : ∀ s', sd_I s' sd_A0 → post s') :
    ∃ f, wX_init_141 post mc ms kc ks (nI r) f 0 a1 (fun _ => 0) (fun _ => 0) (fun _ => 0) (fun _ => 0) (fun _ => 0) (fun _ => 0) (fun _ => 0) a9 (fun _ => 0) (fun _ => 0) (fun _ => 0) := by
  refine pk_loop (σ := Nat → Int32) (fun f i s => wX_init_141 post mc ms kc ks (nI r) f (nI i) s (fun _ => 0) (fun _ => 0) (fun _ => 0) (fun _ => 0) (fun _ => 0) (fun _ => 0) (fun _ => 0) a9 (fun _ => 0) (fun _ => 0) (fun _ => 0))
    (fun i s => ∀ m, m < i → s m = 1) 3 0 a1 (by omega) (fun m hm => absurd hm (by omega)) (fun f s hI => ?_) (fun f i s hi hI hw => ?_)
  · refine pk_le 3 3 (fun _ => P _ ⟨r, rfl, ⟨⟨hr, hr8⟩, hI, fun _ _ => rfl, fun _ _ => ⟨Nat.le_refl 3, fun _ => rfl⟩, fun m b hm hb _ => ⟨?_, fun i hi e => ?_⟩, fun n hn => sd_JN_0 rfl (fun b _ => ?_), fun n hn => ⟨fun i hi => Or.inl ⟨h9 _ (by omega), rfl⟩, fun i j hi hj e ne => absurd (h9 _ (by omega)) ne⟩, fun n hn => ⟨0, by omega, rfl⟩⟩, fun _ _ => rfl⟩) (fun w => absurd w (by omega))
    · show ¬ 3 = m
      omega
    · exact sd_m1 (by omega) ((h9 _ (by omega)).symm.trans e)
    · show ¬ 3 = n
      omega
  · refine pk_le 3 i (fun w => absurd w (by omega)) (fun _ => ⟨pk_in i 3 hi, nm_r (congrArg (fun t => upd s t 1) (nI_clamp (by omega))) (nm_r (nI_1 i) (hw _ (fun m hm => ?_)))⟩)
    by_cases e : m = i
    · rw [e, pk_us]
    · rw [pk_un e]; exact hI m (by omega)
theorem sd_i120 {post : St1 → Prop} {mc ms kc ks r : Nat} (hr : 2 ≤ r) (hr8 : r ≤ 8) (P : ∀ s', sd_I s' sd_A0 → post s') :
    ∃ f, wX_init_120 post mc ms kc ks (nI r) f 0 (fun _ => 0) (fun _ => 0) (fun _ => 0) (fun _ => 0) (fun _ => 0) (fun _ => 0) (fun _ => 0) (fun _ => 0) (fun _ => 0) (fun _ => 0) (fun _ => 0) (fun _ => 0) := by
  refine pk_loop (σ := Nat → Int32) (fun f i s => wX_init_120 post mc ms kc ks (nI r) f (nI i) (fun _ => 0) (fun _ => 0) (fun _ => 0) (fun _ => 0) (fun _ => 0) (fun _ => 0) (fun _ => 0) (fun _ => 0) s (fun _ => 0) (fun _ => 0) (fun _ => 0))
    (fun i s => ∀ m, m < i → s m = -1) 24 0 (fun _ => 0) (by omega) (fun m hm => absurd hm (by omega)) (fun f s hI => ?_) (fun f i s hi hI hw => ?_)
  · exact pk_le 24 24 (fun _ => sd_i141 hr hr8 hI P) (fun w => absurd w (by omega))
  · refine pk_le 24 i (fun w => absurd w (by omega)) (fun _ => ⟨pk_in i 24 hi, nm_r (congrArg (fun t => upd s t (-1)) (nI_clamp (by omega))) (nm_r (nI_1 i) (hw _ (fun m hm => ?_)))⟩)
    by_cases e : m = i
    · rw [e, pk_us]
    · rw [pk_un e]; exact hI m (by omega)
theorem sd_init {post : St1 → Prop} {mc ms r : Nat} {x : St0} (hr : 2 ≤ r) (hr8 : r ≤ 8) (hmc : 12 ≤ mc) (hms : 247 ≤ ms) (P : ∀ s', sd_I s' sd_A0 → post s') :
    wpX_init post mc ms x (nI r) := by
  unfold wpX_init
  refine ⟨by omega, by omega, by omega, by omega, by omega, by omega, by omega, by omega, by omega, by omega, by omega, by omega, by omega, by omega, by omega, by omega, by omega, by omega, by omega, by omega, by omega, by omega, by omega, by omega, pk_le 2 r (fun _ => ?_) (fun w => absurd w (by omega))⟩
  unfold wX_init_104
  exact pk_le r 8 (fun _ => sd_i120 hr hr8 P) (fun w => absurd w (by omega))
noncomputable def sd_turn (op n a b : Nat) (v : Int32) (A : sd_A) : Int32 × sd_A :=
  if op ≤ 4 then sd_mw n a v A else if op ≤ 6 then sd_mr n a A else if op ≤ 9 then sd_ms n a b A else if op = 10 then sd_my n A else if op = 11 then sd_mc n A
  else if op = 12 then (if v &&& 1 = 0 then sd_mc n A else sd_ml n A) else if op ≤ 14 then sd_mx n A else if v &&& 1 = 0 then sd_mp A else (0, A)
theorem sd_E_turn {mk sh op n a b : Nat} {v : Int32} {A B : sd_A} (hm : mk < 16) (E : sd_E mk sh A B) (hn : n < 3) (ha : a < 16) (hb : b < 16) :
    sd_E2 mk sh (sd_turn op n a b v A) (sd_turn op (sd_pi sh n) (a ^^^ mk) (b ^^^ mk) v B) := by
  unfold sd_turn
  by_cases h4 : op ≤ 4
  · rw [if_pos h4, if_pos h4]; exact sd_E_mw hm E hn ha
  rw [if_neg h4, if_neg h4]
  by_cases h6 : op ≤ 6
  · rw [if_pos h6, if_pos h6]; exact sd_E_mr E hn ha
  rw [if_neg h6, if_neg h6]
  by_cases h9 : op ≤ 9
  · rw [if_pos h9, if_pos h9]; exact sd_E_ms hm E hn ha hb
  rw [if_neg h9, if_neg h9]
  by_cases h10 : op = 10
  · rw [if_pos h10, if_pos h10]; exact sd_E_my hm E hn
  rw [if_neg h10, if_neg h10]
  by_cases h11 : op = 11
  · rw [if_pos h11, if_pos h11]; exact sd_E_mc hm E hn
  rw [if_neg h11, if_neg h11]
  by_cases h12 : op = 12
  · rw [if_pos h12, if_pos h12]
    by_cases hv : v &&& 1 = 0
    · rw [if_pos hv, if_pos hv]; exact sd_E_mc hm E hn
    · rw [if_neg hv, if_neg hv]; exact sd_E_ml hm E hn
  rw [if_neg h12, if_neg h12]
  by_cases h14 : op ≤ 14
  · rw [if_pos h14, if_pos h14]; exact sd_E_mx E hn
  rw [if_neg h14, if_neg h14]
  by_cases hv : v &&& 1 = 0
  · rw [if_pos hv, if_pos hv]; exact sd_E_mp hm E
  · rw [if_neg hv, if_neg hv]; exact ⟨rfl, E⟩
theorem sd_turn_s {op n a b : Nat} {v : Int32} {A : sd_A} (h : op = 8 ∨ op = 9) : sd_turn op n a b v A = sd_ms n a b A := by
  unfold sd_turn
  rw [if_neg (by omega), if_neg (by omega), if_pos (by omega)]
section
variable {op n a b : Nat} {f0 v : Int32} {A : sd_A} {a1 a2 a3 a4 a5 a6 a7 a8 a9 a10 a11 a12 : Nat → Int32}
theorem sd_turn_w {post : Int32 → St1 → Prop} (hop : op < 16) (hn : n < 3) (ha : a < 16) (hb : b < 16) (h : sd_I (f0, a1, a2, a3, a4, a5, a6, a7, a8, a9, a10, a11, a12) A)
    (P : ∀ s', sd_I s' (sd_turn op n a b v A).2 → post (sd_turn op n a b v A).1 s') : wpL_turn post (f0, a1, a2, a3, a4, a5, a6, a7, a8, a9, a10, a11, a12) (nI op) (nI n) (nI a) (nI b) v := by
  unfold sd_turn at P
  unfold wpL_turn wL_turn_86
  dsimp only
  refine pk_lt 4 op (fun w4 => pk_lt 6 op (fun w6 => pk_lt 9 op (fun w9 => pk_eq op 10 (fun w => ?_) (fun w10 => pk_eq op 11 (fun w => ?_) (fun w11 => pk_eq op 12 (fun w => ?_) (fun w12 => pk_lt 14 op (fun w14 => ?_) (fun w14 => ?_))))) (fun w9 => ?_)) (fun w6 => ?_)) (fun w4 => ?_)
  · rw [if_neg (by omega), if_neg (by omega), if_neg (by omega), if_pos w] at P
    refine sd_sync hn h (fun s' h' => ?_)
    obtain ⟨g0, g1, g2, g3, g4, g5, g6, g7, g8, g9, g10, g11, g12⟩ := s'
    exact P _ h'
  · rw [if_neg (by omega), if_neg (by omega), if_neg (by omega), if_neg (by omega), if_pos w] at P
    refine sd_crash hn h (fun s' h' => ?_)
    obtain ⟨g0, g1, g2, g3, g4, g5, g6, g7, g8, g9, g10, g11, g12⟩ := s'
    exact P _ h'
  · rw [if_neg (by omega), if_neg (by omega), if_neg (by omega), if_neg (by omega), if_neg (by omega), if_pos w] at P
    refine br_c (fun hv => ?_) (fun hv => ?_)
    · rw [if_pos hv] at P
      refine sd_crashInSync hn h (fun _ s' h' => ?_) (fun z => absurd rfl z)
      obtain ⟨g0, g1, g2, g3, g4, g5, g6, g7, g8, g9, g10, g11, g12⟩ := s'
      exact P _ h'
    · rw [if_neg hv] at P
      refine sd_crashInSync hn h (fun z => absurd z (by decide)) (fun _ s' h' => ?_)
      obtain ⟨g0, g1, g2, g3, g4, g5, g6, g7, g8, g9, g10, g11, g12⟩ := s'
      exact P _ h'
  · rw [if_neg (by omega), if_neg (by omega), if_neg (by omega), if_neg (by omega), if_neg (by omega), if_neg (by omega), if_neg (by omega)] at P
    refine br_c (fun hv => ?_) (fun hv => ?_)
    · rw [if_pos hv] at P
      refine sd_powerCut h (fun s' h' => ?_)
      obtain ⟨g0, g1, g2, g3, g4, g5, g6, g7, g8, g9, g10, g11, g12⟩ := s'
      exact P _ h'
    · rw [if_neg hv] at P
      exact P _ h
  · rw [if_neg (by omega), if_neg (by omega), if_neg (by omega), if_neg (by omega), if_neg (by omega), if_neg (by omega), if_pos (by omega)] at P
    refine sd_restart hn h (fun s' h' => ?_)
    obtain ⟨g0, g1, g2, g3, g4, g5, g6, g7, g8, g9, g10, g11, g12⟩ := s'
    exact P _ h'
  · rw [if_neg (by omega), if_neg (by omega), if_pos (by omega)] at P
    refine sd_swap hn ha hb h (fun s' h' => ?_)
    obtain ⟨g0, g1, g2, g3, g4, g5, g6, g7, g8, g9, g10, g11, g12⟩ := s'
    exact P _ h'
  · rw [if_neg (by omega), if_pos (by omega)] at P
    refine sd_read hn ha h (fun s' h' => ?_)
    obtain ⟨g0, g1, g2, g3, g4, g5, g6, g7, g8, g9, g10, g11, g12⟩ := s'
    exact P _ h'
  · rw [if_pos (by omega)] at P
    refine sd_write hn ha h (fun s' h' => ?_)
    obtain ⟨g0, g1, g2, g3, g4, g5, g6, g7, g8, g9, g10, g11, g12⟩ := s'
    exact P _ h'
end
end
section
/-! PART 11: the law's checks and its loop -/
section
variable {mk sh L kc ks : Nat} {xs : Nat → Int32} {post : Int32 → Prop} {x3 x4 x5 z0 s0 t0 : Int32} {A B : sd_A} {s1 s2 s3 s4 s5 s6 s7 s8 s9 s10 s11 s12 : Nat → Int32} {t1 t2 t3 t4 t5 t6 t7 t8 t9 t10 t11 t12 : Nat → Int32}
variable {J58 : Int32 → Int32 → (Nat → Int32) → (Nat → Int32) → (Nat → Int32) → (Nat → Int32) → (Nat → Int32) → (Nat → Int32) → (Nat → Int32) → (Nat → Int32) → (Nat → Int32) → (Nat → Int32) → (Nat → Int32) → (Nat → Int32) → Int32 → (Nat → Int32) → (Nat → Int32) → (Nat → Int32) → (Nat → Int32) → (Nat → Int32) → (Nat → Int32) → (Nat → Int32) → (Nat → Int32) → (Nat → Int32) → (Nat → Int32) → (Nat → Int32) → (Nat → Int32) → Prop}
theorem sd_l368 (hm : mk < 16) (hs : sh < 3) (hx : sd_I (s0, s1, s2, s3, s4, s5, s6, s7, s8, s9, s10, s11, s12) A) (hy : sd_I (t0, t1, t2, t3, t4, t5, t6, t7, t8, t9, t10, t11, t12) B) (E : sd_E mk sh A B) (HJ : J58 (x5 + 3) s0 s1 s2 s3 s4 s5 s6 s7 s8 s9 s10 s11 s12 t0 t1 t2 t3 t4 t5 t6 t7 t8 t9 t10 t11 t12) :
    ∃ f, wL_law_368 post L xs J58 x3 (nI sh) x5 kc ks s0 s1 s2 s3 s4 s5 s6 s7 s8 s9 s10 s11 s12 t0 t1 t2 t3 t4 t5 t6 t7 t8 t9 t10 t11 t12 f 0 := by
  refine pk_loop (σ := Unit) (fun f i _ => wL_law_368 post L xs J58 x3 (nI sh) x5 kc ks s0 s1 s2 s3 s4 s5 s6 s7 s8 s9 s10 s11 s12 t0 t1 t2 t3 t4 t5 t6 t7 t8 t9 t10 t11 t12 f (nI i)) (fun _ _ => True) 3 0 () (by omega) trivial (fun f _ _ => pk_le 3 3 (fun _ => nm_e HJ) (fun w => absurd w (by omega))) (fun f i _ hi _ hw => ?_)
  have three : ¬ (3 : Int32) = 0 := by decide
  have er := sd_rem hi hs
  have eU := E.1 i hi
  have hp := sd_pi_lt (sh := sh) hi
  refine pk_le 3 i (fun w => absurd w (by omega)) (fun _ => ?_)
  rw [er]
  refine sd_isUp hi hx (fun e => ⟨three, sd_isUp hp hy (fun e' => br_t rfl ?_) (fun e' => absurd (eU.trans e) e')⟩) (fun e => ⟨three, sd_isUp hp hy (fun e' => absurd (eU.symm.trans e') e) (fun e' => br_t rfl ?_)⟩)
  · exact sd_unsafe hi hx ⟨three, sd_unsafe hp hy (br_t (congrArg nI (sd_E_cn hm E hi)).symm (nm_r (nI_1 i) (hw () trivial)))⟩
  · exact sd_unsafe hi hx ⟨three, sd_unsafe hp hy (br_t (congrArg nI (sd_E_cn hm E hi)).symm (nm_r (nI_1 i) (hw () trivial)))⟩
theorem sd_l306 {J274 : Int32 → Prop} {i : Nat} (hm : mk < 16) (hi : i < 16) (hx : sd_I (s0, s1, s2, s3, s4, s5, s6, s7, s8, s9, s10, s11, s12) A) (hy : sd_I (t0, t1, t2, t3, t4, t5, t6, t7, t8, t9, t10, t11, t12) B) (E : sd_E mk sh A B) (hz : z0 = sd_ow (B.2.2.2 (i ^^^ mk))) (HN : J274 (nI i + 1)) :
    wL_law_306 post L xs J58 J274 (nI mk) x4 x5 (nI i) z0 kc ks s0 s1 s2 s3 s4 s5 s6 s7 s8 s9 s10 s11 s12 t0 t1 t2 t3 t4 t5 t6 t7 t8 t9 t10 t11 t12 := by
  obtain ⟨q0, q1, q2, q3⟩ := E.2 i hi
  have hp := sd_xlt hi hm
  unfold wL_law_306
  rw [sd_xor]
  exact sd_content hi hx (sd_content hp hy (br_t q2.symm (sd_safe hi hx (sd_safe hp hy (br_t q1.symm (sd_owner hp hy (br_t hz.symm (nm_e HN))))))))
theorem sd_l274 (hm : mk < 16) (hs : sh < 3) (hx : sd_I (s0, s1, s2, s3, s4, s5, s6, s7, s8, s9, s10, s11, s12) A) (hy : sd_I (t0, t1, t2, t3, t4, t5, t6, t7, t8, t9, t10, t11, t12) B) (E : sd_E mk sh A B) (HJ : J58 (x5 + 3) s0 s1 s2 s3 s4 s5 s6 s7 s8 s9 s10 s11 s12 t0 t1 t2 t3 t4 t5 t6 t7 t8 t9 t10 t11 t12) :
    ∃ f, wL_law_274 post L xs J58 (nI mk) (nI sh) x5 kc ks s0 s1 s2 s3 s4 s5 s6 s7 s8 s9 s10 s11 s12 t0 t1 t2 t3 t4 t5 t6 t7 t8 t9 t10 t11 t12 f 0 := by
  refine pk_loop (σ := Unit) (fun f i _ => wL_law_274 post L xs J58 (nI mk) (nI sh) x5 kc ks s0 s1 s2 s3 s4 s5 s6 s7 s8 s9 s10 s11 s12 t0 t1 t2 t3 t4 t5 t6 t7 t8 t9 t10 t11 t12 f (nI i)) (fun _ _ => True) 16 0 () (by omega) trivial (fun f _ _ => pk_le 16 16 (fun _ => sd_l368 hm hs hx hy E HJ) (fun w => absurd w (by omega))) (fun f i _ hi _ hw => ?_)
  have three : ¬ (3 : Int32) = 0 := by decide
  obtain ⟨q0, q1, q2, q3⟩ := E.2 i hi
  have HN : wL_law_274 post L xs J58 (nI mk) (nI sh) x5 kc ks s0 s1 s2 s3 s4 s5 s6 s7 s8 s9 s10 s11 s12 t0 t1 t2 t3 t4 t5 t6 t7 t8 t9 t10 t11 t12 f (nI i + 1) := by
    rw [nI_1]; exact hw () trivial
  refine pk_le 16 i (fun w => absurd w (by omega)) (fun _ => sd_owner hi hx ?_)
  by_cases e : A.2.2.2 i < 3
  · have e1 : sd_ow (A.2.2.2 i) = nI (A.2.2.2 i) := if_pos e
    have e2 : sd_ow (B.2.2.2 (i ^^^ mk)) = nI (sd_pi sh (A.2.2.2 i)) := by
      rw [q3]; exact if_pos (sd_pi_lt e)
    rw [e1]
    refine br_t (nI_pos' (by omega)) ⟨three, sd_l306 hm hi hx hy E ?_ HN⟩
    rw [e2]
    exact sd_rem e hs
  · have e3 : A.2.2.2 i = 3 := by omega
    have e1 : sd_ow (A.2.2.2 i) = -4 := if_neg e
    have e2 : sd_ow (B.2.2.2 (i ^^^ mk)) = -4 := by
      rw [q3, e3]; rfl
    rw [e1]
    exact br_f (by decide) (sd_l306 hm hi hx hy E e2.symm HN)
theorem sd_l262 {x y : Int32} (hm : mk < 16) (hs : sh < 3) (hx : sd_I (s0, s1, s2, s3, s4, s5, s6, s7, s8, s9, s10, s11, s12) A) (hy : sd_I (t0, t1, t2, t3, t4, t5, t6, t7, t8, t9, t10, t11, t12) B) (E : sd_E mk sh A B) (hxy : y = x) (HJ : J58 (x5 + 3) s0 s1 s2 s3 s4 s5 s6 s7 s8 s9 s10 s11 s12 t0 t1 t2 t3 t4 t5 t6 t7 t8 t9 t10 t11 t12) :
    wL_law_262 post L xs J58 (nI mk) (nI sh) x5 x y kc ks s0 s1 s2 s3 s4 s5 s6 s7 s8 s9 s10 s11 s12 t0 t1 t2 t3 t4 t5 t6 t7 t8 t9 t10 t11 t12 := by
  unfold wL_law_262
  exact br_t hxy.symm (sd_l274 hm hs hx hy E HJ)
/-- the other object's swap by hand: two reads and two writes -/
theorem sd_l164 {m a b : Nat} {x : Int32} (hm : m < 3) (ha : a < 16) (hb : b < 16) (hy : sd_I (t0, t1, t2, t3, t4, t5, t6, t7, t8, t9, t10, t11, t12) B) {x9 x10 : Int32} (e9 : x9 ^^^ x3 = nI a) (e10 : x10 ^^^ x3 = nI b)
    (P : ∀ g0 g1 g2 g3 g4 g5 g6 g7 g8 g9 g10 g11 g12, sd_I (g0, g1, g2, g3, g4, g5, g6, g7, g8, g9, g10, g11, g12) (sd_ms m a b B).2 → wL_law_262 post L xs J58 x3 x4 x5 x (sd_ms m a b B).1 kc ks s0 s1 s2 s3 s4 s5 s6 s7 s8 s9 s10 s11 s12 g0 g1 g2 g3 g4 g5 g6 g7 g8 g9 g10 g11 g12) :
    wL_law_164 post L xs J58 x3 x4 x5 (nI m) x9 x10 x kc ks s0 s1 s2 s3 s4 s5 s6 s7 s8 s9 s10 s11 s12 t0 t1 t2 t3 t4 t5 t6 t7 t8 t9 t10 t11 t12 := by
  unfold wL_law_164
  rw [e9, e10]
  by_cases e : B.1 m = 0
  · have r1 : ∀ b, sd_mr m b B = (-3, B) := fun b => if_pos e
    have r2 : sd_ms m a b B = (-3, B) := if_pos e
    rw [r2] at P
    refine sd_read hm ha hy (fun u1 h1 => ?_)
    rw [r1] at h1 ⊢
    obtain ⟨g0, g1, g2, g3, g4, g5, g6, g7, g8, g9, g10, g11, g12⟩ := u1
    dsimp only at h1 ⊢
    refine sd_read hm hb h1 (fun u2 h2 => ?_)
    rw [r1] at h2
    obtain ⟨p0, p1, p2, p3, p4, p5, p6, p7, p8, p9, p10, p11, p12⟩ := u2
    dsimp only at h2 ⊢
    refine sd_isUp hm h2 (fun _ => br_t rfl ?_) (fun w => absurd e w)
    unfold wL_law_214
    refine sd_isUp hm h2 (fun _ => br_t rfl ?_) (fun w => absurd e w)
    unfold wL_law_239
    exact P p0 p1 p2 p3 p4 p5 p6 p7 p8 p9 p10 p11 p12 h2
  · have r1 : sd_mr m a B = (B.2.2.1 a, sd_tk m a B) := if_neg e
    have r2 : sd_mr m b (sd_tk m a B) = (B.2.2.1 b, sd_tk m b (sd_tk m a B)) := by
      unfold sd_mr sd_tk
      rw [sd_tk_U, sd_tk_V, if_neg e]
    have r3 : sd_ms m a b B = (nI (sd_cn (sd_sw m a b B).2.2.2 m), sd_sw m a b B) := if_neg e
    have u2 : (sd_tk m b (sd_tk m a B)).1 = B.1 := by
      unfold sd_tk
      rw [sd_tk_U, sd_tk_U]
    have r4 : ∀ v, sd_mw m a v (sd_tk m b (sd_tk m a B)) = (nI (sd_cn (sd_wr m a v (sd_tk m b (sd_tk m a B))).2.2.2 m), sd_wr m a v (sd_tk m b (sd_tk m a B))) := fun v => if_neg (by rw [u2]; exact e)
    have u3 : ∀ v, (sd_wr m a v (sd_tk m b (sd_tk m a B))).1 = B.1 := by
      intro v
      show (sd_tki 3 m a (sd_tk m b (sd_tk m a B))).1 = B.1
      rw [sd_tk_U, u2]
    have r5 : ∀ v, sd_mw m b (B.2.2.1 a) (sd_wr m a v (sd_tk m b (sd_tk m a B))) = (nI (sd_cn (sd_wr m b (B.2.2.1 a) (sd_wr m a v (sd_tk m b (sd_tk m a B)))).2.2.2 m), sd_wr m b (B.2.2.1 a) (sd_wr m a v (sd_tk m b (sd_tk m a B)))) := fun v => if_neg (by rw [u3]; exact e)
    rw [r3] at P
    refine sd_read hm ha hy (fun v1 h1 => ?_)
    rw [r1] at h1 ⊢
    obtain ⟨g0, g1, g2, g3, g4, g5, g6, g7, g8, g9, g10, g11, g12⟩ := v1
    dsimp only at h1 ⊢
    refine sd_read hm hb h1 (fun v2 h2 => ?_)
    rw [r2] at h2 ⊢
    obtain ⟨p0, p1, p2, p3, p4, p5, p6, p7, p8, p9, p10, p11, p12⟩ := v2
    dsimp only at h2 ⊢
    refine sd_isUp hm h2 (fun w => absurd (by rw [← u2]; exact w) e) (fun _ => br_f (by decide) ?_)
    refine sd_write hm ha h2 (fun v3 h3 => ?_)
    rw [r4] at h3 ⊢
    obtain ⟨q0, q1, q2, q3, q4, q5, q6, q7, q8, q9, q10, q11, q12⟩ := v3
    dsimp only at h3 ⊢
    unfold wL_law_214
    rw [e10]
    refine sd_isUp hm h3 (fun w => absurd (by rw [← u3]; exact w) e) (fun _ => br_f (by decide) ?_)
    refine sd_write hm hb h3 (fun v4 h4 => ?_)
    rw [r5] at h4 ⊢
    obtain ⟨r0, r1, r2, r3, r4, r5, r6, r7, r8, r9, r10, r11, r12⟩ := v4
    dsimp only at h4 ⊢
    unfold wL_law_239
    exact P r0 r1 r2 r3 r4 r5 r6 r7 r8 r9 r10 r11 r12 h4
end
end
section
/-! PART 12: the law's loop, the owed statement -/
theorem sd_lt3 {L i : Nat} (hL : L ≤ 260) (hi : i ≤ 300) : Int32.ofNat L - 3 < nI i ↔ L < i + 3 := by
  rw [Int32.lt_iff_toInt_lt]
  have e : (Int32.ofNat L - 3).toInt = (L : Int) - (3 : Nat) := pk_sub_toInt (a := L) (b := 3) (by omega) (by omega)
  rw [e, nI_toInt (by omega)]
  omega
theorem sd_l58 {mk sh L kc ks : Nat} {xs : Nat → Int32} (hL : L ≤ 260) (hm : mk < 16) (hs : sh < 3) :
    ∀ (f i : Nat) (s0 : Int32) (s1 s2 s3 s4 s5 s6 s7 s8 s9 s10 s11 s12 : Nat → Int32) (t0 : Int32) (t1 t2 t3 t4 t5 t6 t7 t8 t9 t10 t11 t12 : Nat → Int32) (A B : sd_A), i ≤ 270 → L - i < f →
      sd_I (s0, s1, s2, s3, s4, s5, s6, s7, s8, s9, s10, s11, s12) A → sd_I (t0, t1, t2, t3, t4, t5, t6, t7, t8, t9, t10, t11, t12) B → sd_E mk sh A B → wL_law_58 (fun r => r = 1) L xs (nI mk) (nI sh) kc ks f (nI i) s0 s1 s2 s3 s4 s5 s6 s7 s8 s9 s10 s11 s12 t0 t1 t2 t3 t4 t5 t6 t7 t8 t9 t10 t11 t12 := by
  intro f
  induction f with
  | zero => intro i s0 s1 s2 s3 s4 s5 s6 s7 s8 s9 s10 s11 s12 t0 t1 t2 t3 t4 t5 t6 t7 t8 t9 t10 t11 t12 A B hi hf; omega
  | succ f ih =>
    intro i s0 s1 s2 s3 s4 s5 s6 s7 s8 s9 s10 s11 s12 t0 t1 t2 t3 t4 t5 t6 t7 t8 t9 t10 t11 t12 A B hi hf hx hy E
    have three : ¬ (3 : Int32) = 0 := by decide
    by_cases h3 : L < i + 3
    · exact br_t ((sd_lt3 hL (by omega)).mpr h3) rfl
    · have eb1 : nI i + 1 = nI (i + 1) := nI_1 i
      have eb2 : nI i + 2 = nI (i + 2) := nI_add i 2
      obtain ⟨op, hop, eop⟩ := pk_andE (xs (nI i).toNatClampNeg) (m := 15) 4 (by decide)
      obtain ⟨j, hj, ej⟩ := pk_andE ((xs (nI i).toNatClampNeg) >>> ((4 : Int32) &&& 31)) (m := 1023) 10 (by decide)
      obtain ⟨a, ha, ea⟩ := pk_andE (xs (nI i + 1).toNatClampNeg) (m := 15) 4 (by decide)
      obtain ⟨b, hb, eb⟩ := pk_andE ((xs (nI i + 1).toNatClampNeg) >>> ((4 : Int32) &&& 31)) (m := 15) 4 (by decide)
      have en : (((xs (nI i).toNatClampNeg) >>> ((4 : Int32) &&& 31)) &&& 1023) - (((xs (nI i).toNatClampNeg) >>> ((4 : Int32) &&& 31)) &&& 1023) / 3 * 3 = nI (j % 3) := by
        rw [ej]
        exact pk_rem (d := 3) (by omega) (by omega) (by omega)
      have hn : j % 3 < 3 := by omega
      have hp := sd_pi_lt (sh := sh) hn
      have hax := sd_xlt (c := a) (mk := mk) (by omega) hm
      have hbx := sd_xlt (c := b) (mk := mk) (by omega) hm
      refine br_f (fun w => h3 ((sd_lt3 hL (by omega)).mp w)) ⟨pk_in i L (by omega), nm_r eop ⟨pk_in i L (by omega), three, nm_r en ⟨three, nm_r (sd_rem hn hs) ⟨pk_in (i + 1) L (by omega) eb1, nm_r ea ⟨pk_in (i + 1) L (by omega) eb1, nm_r eb ⟨pk_in (i + 2) L (by omega) eb2, nm_e ?_⟩⟩⟩⟩⟩⟩
      refine sd_turn_w (by omega) hn (by omega) (by omega) hx (fun s' hs' => ?_)
      obtain ⟨g0, g1, g2, g3, g4, g5, g6, g7, g8, g9, g10, g11, g12⟩ := s'
      dsimp only
      have T := sd_E_turn (op := op) (v := xs (nI i + 2).toNatClampNeg) hm E hn (show a < 16 by omega) (show b < 16 by omega)
      have HJ : ∀ (p0 : Int32) (p1 p2 p3 p4 p5 p6 p7 p8 p9 p10 p11 p12 : Nat → Int32), sd_I (p0, p1, p2, p3, p4, p5, p6, p7, p8, p9, p10, p11, p12) (sd_turn op (sd_pi sh (j % 3)) (a ^^^ mk) (b ^^^ mk) (xs (nI i + 2).toNatClampNeg) B).2 →
          wL_law_58 (fun r => r = 1) L xs (nI mk) (nI sh) kc ks f (nI i + 3) g0 g1 g2 g3 g4 g5 g6 g7 g8 g9 g10 g11 g12 p0 p1 p2 p3 p4 p5 p6 p7 p8 p9 p10 p11 p12 := by
        intro p0 p1 p2 p3 p4 p5 p6 p7 p8 p9 p10 p11 p12 hp'
        rw [show nI i + 3 = nI (i + 3) from nI_add i 3]
        exact ih (i + 3) g0 g1 g2 g3 g4 g5 g6 g7 g8 g9 g10 g11 g12 p0 p1 p2 p3 p4 p5 p6 p7 p8 p9 p10 p11 p12 _ _ (by omega) (by omega) hs' hp' T.2
      have sw : (op = 8 ∨ op = 9) → wL_law_164 (fun r => r = 1) L xs (wL_law_58 (fun r => r = 1) L xs (nI mk) (nI sh) kc ks f) (nI mk) (nI sh) (nI i) (nI (sd_pi sh (j % 3))) (nI a) (nI b) (sd_turn op (j % 3) a b (xs (nI i + 2).toNatClampNeg) A).1 kc ks g0 g1 g2 g3 g4 g5 g6 g7 g8 g9 g10 g11 g12 t0 t1 t2 t3 t4 t5 t6 t7 t8 t9 t10 t11 t12 := by
        intro w
        rw [sd_turn_s (n := sd_pi sh (j % 3)) w] at T HJ
        exact sd_l164 hp hax hbx hy (sd_xor a mk) (sd_xor b mk) (fun p0 p1 p2 p3 p4 p5 p6 p7 p8 p9 p10 p11 p12 hp' => sd_l262 hm hs hs' hp' T.2 T.1 (HJ p0 p1 p2 p3 p4 p5 p6 p7 p8 p9 p10 p11 p12 hp'))
      refine pk_eq op 8 (fun w => sw (Or.inl w)) (fun _ => pk_eq op 9 (fun w => sw (Or.inr w)) (fun _ => ?_))
      rw [sd_xor, sd_xor]
      refine sd_turn_w (by omega) hp hax hbx hy (fun t' ht' => ?_)
      obtain ⟨p0, p1, p2, p3, p4, p5, p6, p7, p8, p9, p10, p11, p12⟩ := t'
      dsimp only
      exact sd_l262 hm hs hs' ht' T.2 T.1 (HJ p0 p1 p2 p3 p4 p5 p6 p7 p8 p9 p10 p11 p12 ht')
theorem sd_l33 {mk L kc ks : Nat} {xs : Nat → Int32} {s0 t0 : Int32} {s1 s2 s3 s4 s5 s6 s7 s8 s9 s10 s11 s12 : Nat → Int32} {t1 t2 t3 t4 t5 t6 t7 t8 t9 t10 t11 t12 : Nat → Int32} (hL : L ≤ 260) (hm : mk < 16) (hx : sd_I (s0, s1, s2, s3, s4, s5, s6, s7, s8, s9, s10, s11, s12) sd_A0) (hy : sd_I (t0, t1, t2, t3, t4, t5, t6, t7, t8, t9, t10, t11, t12) sd_A0) :
    wL_law_33 (fun r => r = 1) L xs (nI mk) kc ks s0 s1 s2 s3 s4 s5 s6 s7 s8 s9 s10 s11 s12 t0 t1 t2 t3 t4 t5 t6 t7 t8 t9 t10 t11 t12 := by
  unfold wL_law_33
  refine pk_le L 1 (fun _ => ⟨L + 1, ?_⟩) (fun w => ⟨pk_in 1 L w, by decide, ?_⟩)
  · exact sd_l58 (sh := 0) hL hm (by omega) (L + 1) 2 s0 s1 s2 s3 s4 s5 s6 s7 s8 s9 s10 s11 s12 t0 t1 t2 t3 t4 t5 t6 t7 t8 t9 t10 t11 t12 _ _ (by omega) (by omega) hx hy sd_E_0
  · obtain ⟨j, hj, ej⟩ := pk_andE (xs (1 : Int32).toNatClampNeg) (m := 1023) 10 (by decide)
    have en : ((xs (1 : Int32).toNatClampNeg) &&& 1023) - ((xs (1 : Int32).toNatClampNeg) &&& 1023) / 3 * 3 = nI (j % 3) := by
      rw [ej]
      exact pk_rem (d := 3) (by omega) (by omega) (by omega)
    refine nm_r en ⟨L + 1, ?_⟩
    exact sd_l58 hL hm (by omega) (L + 1) 2 s0 s1 s2 s3 s4 s5 s6 s7 s8 s9 s10 s11 s12 t0 t1 t2 t3 t4 t5 t6 t7 t8 t9 t10 t11 t12 _ _ (by omega) (by omega) hx hy sd_E_0
theorem i_vc (xs : Nat → Int32) (L : Nat) (hL : L ≤ 260) : wpL_law (fun r => r = 1) L xs := by
  unfold wpL_law
  refine ⟨12, 247, by omega, by omega, sd_init (r := 2) (by omega) (by omega) (by omega) (by omega) (fun s hx => ?_)⟩
  obtain ⟨s0, s1, s2, s3, s4, s5, s6, s7, s8, s9, s10, s11, s12⟩ := s
  dsimp only
  refine ⟨by omega, by omega, 12, 247, by omega, by omega, sd_init (r := 4) (by omega) (by omega) (by omega) (by omega) (fun t hy => ?_)⟩
  obtain ⟨t0, t1, t2, t3, t4, t5, t6, t7, t8, t9, t10, t11, t12⟩ := t
  dsimp only
  obtain ⟨mk, hmk, em⟩ := pk_andE (xs (0 : Int32).toNatClampNeg) (m := 15) 4 (by decide)
  rw [em]
  exact pk_le L 0 (fun _ => sd_l33 (mk := 0) hL (by omega) hx hy) (fun w => ⟨pk_in 0 L w, sd_l33 hL (by omega) hx hy⟩)
end
