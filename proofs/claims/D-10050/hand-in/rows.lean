section
/-! bits of an int (the first rows began as kit/laws/BITS.to-paste, the family 'Int32 by its bits') -/
def sf_bt (x : Int32) (i : Nat) : Bool := x.toBitVec.getLsbD i
theorem sf_b_ext {x y : Int32} (h : ∀ i, i < 32 → sf_bt x i = sf_bt y i) : x = y := Int32.toBitVec_inj.mp (BitVec.eq_of_getLsbD_eq (fun i hi => h i hi))
theorem sf_b_or (x y : Int32) (i : Nat) : sf_bt (x ||| y) i = (sf_bt x i || sf_bt y i) := by unfold sf_bt; rw [Int32.toBitVec_or, BitVec.getLsbD_or]
theorem sf_b_and (x y : Int32) (i : Nat) : sf_bt (x &&& y) i = (sf_bt x i && sf_bt y i) := by unfold sf_bt; rw [Int32.toBitVec_and, BitVec.getLsbD_and]
theorem sf_b_0 (i : Nat) : sf_bt 0 i = false := BitVec.getLsbD_zero
theorem sf_s_l : ∀ n, n < 32 → ((nI n &&& 31).toBitVec.smod 32).toNat = n := by decide +kernel
theorem sf_b_shl (n : Nat) (hn : n < 32) (x : Int32) {i : Nat} (hi : i < 32) : sf_bt (x <<< (nI n &&& 31)) i = (decide (n ≤ i) && sf_bt x (i - n)) := by
  unfold sf_bt
  rw [Int32.toBitVec_shiftLeft]
  show (x.toBitVec <<< ((nI n &&& 31).toBitVec.smod 32).toNat).getLsbD i = _
  rw [sf_s_l n hn, BitVec.getLsbD_shiftLeft]
  rcases Nat.lt_or_ge i n with h | h
  · simp [h, Nat.not_le.mpr h]
  · simp [hi, h, Nat.not_lt.mpr h]
theorem sf_b_sshr (n : Nat) (hn : n < 32) (x : Int32) {i : Nat} (hi : i < 32) : sf_bt (x >>> (nI n &&& 31)) i = if n + i < 32 then sf_bt x (n + i) else sf_bt x 31 := by
  unfold sf_bt
  rw [Int32.toBitVec_shiftRight]
  show (x.toBitVec.sshiftRight ((nI n &&& 31).toBitVec.smod 32).toNat).getLsbD i = _
  rw [sf_s_l n hn, BitVec.getLsbD_sshiftRight, BitVec.msb_eq_getLsbD_last]
  simp [hi]
theorem sf_b_1 : ∀ i, i < 32 → sf_bt 1 i = decide (i = 0) := by decide +kernel
/-- one bit is read -/
theorem sf_bit (x : Int32) (r : Nat) (hr : r < 32) : ((x >>> (nI r &&& 31)) &&& 1) = 1 ↔ sf_bt x r = true := by
  constructor
  · intro h
    have h2 : sf_bt ((x >>> (nI r &&& 31)) &&& 1) 0 = sf_bt 1 0 := by rw [h]
    rw [sf_b_and, sf_b_sshr r hr x (by omega), if_pos (by omega), sf_b_1 0 (by omega)] at h2
    simpa using h2
  · intro h
    apply sf_b_ext
    intro i hi
    rw [sf_b_and, sf_b_sshr r hr x hi, sf_b_1 i hi]
    by_cases e : i = 0
    · subst e
      rw [if_pos (by omega)]
      simp [h]
    · simp [e]
/-- one bit is set -/
theorem sf_b_sh1 (r : Nat) (hr : r < 32) {i : Nat} (hi : i < 32) : sf_bt ((1 : Int32) <<< (nI r &&& 31)) i = decide (i = r) := by
  rw [sf_b_shl r hr 1 hi, sf_b_1 (i - r) (by omega)]
  by_cases e : i = r
  · subst e; simp
  · by_cases g : r ≤ i
    · have : ¬ i - r = 0 := by omega
      simp [e, this]
    · simp [e, g]
/-- the bits below m -/
theorem sf_b_mask : ∀ m, m < 32 → ∀ i, i < 32 → sf_bt (((1 : Int32) <<< (nI m &&& 31)) - 1) i = decide (i < m) := by decide +kernel
/-- the lowest bit -/
theorem sf_b_low (x : Int32) (i : Nat) : sf_bt (x &&& -x) i = true ↔ sf_bt x i = true ∧ ∀ j, j < i → sf_bt x j = false := by
  rw [sf_b_and]
  unfold sf_bt
  rw [Int32.toBitVec_neg, BitVec.getLsbD_neg, Bool.and_eq_true]
  have hb : x.toBitVec.getLsbD i = true → i < 32 := by
    intro h
    rcases Nat.lt_or_ge i 32 with g | g
    · exact g
    · rw [BitVec.getLsbD_of_ge _ _ g] at h
      exact absurd h (by decide)
  constructor
  · intro h
    refine ⟨h.1, fun j hj => ?_⟩
    have h2 := h.2
    rw [h.1, decide_eq_true (hb h.1)] at h2
    by_cases e : x.toBitVec.getLsbD j = true
    · have g : (∃ j, j < i ∧ x.toBitVec.getLsbD j = true) := ⟨j, hj, e⟩
      rw [decide_eq_true g] at h2
      exact absurd h2 (by decide)
    · simpa using e
  · intro h
    have h2 : ¬ (∃ j, j < i ∧ x.toBitVec.getLsbD j = true) := by
      rintro ⟨j, hj, e⟩
      rw [h.2 j hj] at e
      exact absurd e (by decide)
    refine ⟨h.1, ?_⟩
    rw [decide_eq_false h2, h.1, Bool.and_false]
    rfl
/-- a rule of the set that is not behind an always-met rule of the set -/
def sf_us (s p : Int32) (r : Nat) : Prop := sf_bt s r = true ∧ ∀ j, j < r → ¬ (sf_bt s j = true ∧ sf_bt p j = true)
theorem sf_us_0 {s p : Int32} (h : (s &&& p) &&& -(s &&& p) = 0) {r : Nat} (hr : r < 32) : sf_bt s r = true ↔ sf_us s p r := by
  have hz : ∀ i, i < 32 → ¬ sf_bt (s &&& p) i = true := by
    intro i
    induction i using Nat.strongRecOn with
    | ind i ih =>
      intro hi g
      have h2 : sf_bt ((s &&& p) &&& -(s &&& p)) i = true := (sf_b_low _ i).mpr ⟨g, fun j hj => by simpa using ih j hj (by omega)⟩
      rw [h, sf_b_0] at h2
      exact absurd h2 (by decide)
  constructor
  · intro g
    refine ⟨g, fun j hj c => hz j (by omega) ?_⟩
    rw [sf_b_and, c.1, c.2]; rfl
  · exact fun g => g.1
theorem sf_us_1 {s p : Int32} (h : ¬ (s &&& p) &&& -(s &&& p) = 0) {r : Nat} (hr : r < 32) : sf_bt (s &&& (((s &&& p) &&& -(s &&& p)) ||| (((s &&& p) &&& -(s &&& p)) - 1))) r = true ↔ sf_us s p r := by
  have hx : ∃ m, m < 32 ∧ sf_bt ((s &&& p) &&& -(s &&& p)) m = true := by
    by_cases c : ∃ m, m < 32 ∧ sf_bt ((s &&& p) &&& -(s &&& p)) m = true
    · exact c
    · refine absurd (sf_b_ext (fun i hi => ?_)) h
      rw [sf_b_0]
      by_cases e : sf_bt ((s &&& p) &&& -(s &&& p)) i = true
      · exact absurd ⟨i, hi, e⟩ c
      · simpa using e
  obtain ⟨m, hm, e⟩ := hx
  have em := (sf_b_low _ m).mp e
  have hc : (s &&& p) &&& -(s &&& p) = (1 : Int32) <<< (nI m &&& 31) := by
    apply sf_b_ext
    intro i hi
    rw [sf_b_sh1 m hm hi]
    by_cases g : i = m
    · subst g; rw [e]; simp
    · rw [decide_eq_false g]
      by_cases c : sf_bt ((s &&& p) &&& -(s &&& p)) i = true
      · have ei := (sf_b_low _ i).mp c
        rcases Nat.lt_or_ge i m with q | q
        · rw [em.2 i q] at ei
          exact absurd ei.1 (by decide)
        · have q2 := ei.2 m (by omega)
          rw [em.1] at q2
          exact absurd q2 (by decide)
      · simpa using c
  rw [hc, sf_b_and, sf_b_or, sf_b_sh1 m hm hr, sf_b_mask m hm r hr]
  have hmm : sf_bt s m = true ∧ sf_bt p m = true := by
    have := em.1
    rw [sf_b_and, Bool.and_eq_true] at this
    exact this
  constructor
  · intro g
    rw [Bool.and_eq_true, Bool.or_eq_true, decide_eq_true_eq, decide_eq_true_eq] at g
    refine ⟨g.1, fun j hj c => ?_⟩
    have q := em.2 j (by omega)
    rw [sf_b_and, c.1, c.2] at q
    exact absurd q (by decide)
  · intro g
    rw [Bool.and_eq_true, Bool.or_eq_true, decide_eq_true_eq, decide_eq_true_eq]
    refine ⟨g.1, ?_⟩
    rcases Nat.lt_or_ge m r with q | q
    · exact absurd hmm (g.2 m q)
    · omega
/-- no always-met rule of the set below r: the mask sees none -/
theorem sf_hid {s p : Int32} {r : Nat} (hr : r < 32) (h : ∀ j, j < r → ¬ (sf_bt s j = true ∧ sf_bt p j = true)) : s &&& (p &&& (((1 : Int32) <<< (nI r &&& 31)) - 1)) = 0 := by
  apply sf_b_ext
  intro i hi
  rw [sf_b_and, sf_b_and, sf_b_mask r hr i hi, sf_b_0]
  by_cases g : i < r
  · have := h i g
    rw [← Bool.and_eq_true] at this
    rw [decide_eq_true g, Bool.and_true]
    simpa using this
  · rw [decide_eq_false g]; simp
end
section
/-! the picture of a state -/
/-- each condition kind is 0..15 -/
def sf_W (a : Nat → Int32) : Prop := ∀ c, c < 26 → ∃ w, w < 16 ∧ a c = nI w
/-- each action is 0..3 -/
def sf_A (a : Nat → Int32) : Prop := ∀ c, c < 13 → ∃ w, w < 4 ∧ a c = nI w
def sf_D (a : Nat → Int32) : Prop := ∀ c, c < 2 → ∃ w, w < 16 ∧ a c = nI w
/-- rule r is met always -/
def sf_pl (a3 : Nat → Int32) (r : Nat) : Prop := a3 (2 * r) &&& 7 = 0 ∧ a3 (2 * r + 1) &&& 7 = 0
/-- the part that does not speak of what is compiled -/
def sf_I0 (n : Nat) (f3 f4 : Int32) (a3 a6 a21 : Nat → Int32) : Prop :=
  n ≤ 12 ∧ f3 = nI n ∧ (∃ s, s < 4 ∧ f4 = nI s) ∧ sf_W a3 ∧ sf_A a6 ∧ sf_D a21
/-- the stretches: S of them, stretch s from B s up to B (s + 1) -/
def sf_St (f6 : Int32) (a10 a11 : Nat → Int32) (S : Nat) (B : Nat → Nat) : Prop :=
  f6 = nI S ∧ 1 ≤ S ∧ S ≤ 32 ∧ B 0 = 0 ∧ B S = 32 ∧ (∀ s, s ≤ S → a11 s = nI (B s)) ∧ (∀ s, s ≤ S → B s ≤ 32) ∧ (∀ s, s < S → B s < B (s + 1)) ∧
  (∀ s, s < S → ∀ k, B s ≤ k → k < B (s + 1) → a10 k = a10 (B s))
/-- a chain of tests: x stands for the rules of U among the last d of n, in their order -/
def sf_ch (a13 a14 : Nat → Int32) (U : Nat → Prop) (n T : Nat) : Nat → Int32 → Prop
  | 0, x => x = -1
  | d + 1, x => (U (n - (d + 1)) → ∃ t, t < T ∧ x = nI t ∧ a13 t = nI (n - (d + 1)) ∧ sf_ch a13 a14 U n T d (a14 t)) ∧ (¬ U (n - (d + 1)) → sf_ch a13 a14 U n T d x)
/-- the tree: node j stands for the stretches from lo up to hi -/
def sf_tr (a15 a16 a17 : Nat → Int32) (B : Nat → Nat) : Nat → Nat → Nat → Nat → Prop
  | 0, j, lo, hi => j < 64 ∧ hi = lo + 1 ∧ a15 j = -1 ∧ a16 j = nI lo
  | d + 1, j, lo, hi => j < 64 ∧ ((hi = lo + 1 ∧ a15 j = -1 ∧ a16 j = nI lo) ∨
      (∃ m l r, lo < m ∧ m < hi ∧ a15 j = nI (B m) ∧ a16 j = nI l ∧ a17 j = nI r ∧ sf_tr a15 a16 a17 B d l lo m ∧ sf_tr a15 a16 a17 B d r m hi))
/-- what is compiled answers to the rules -/
def sf_C (n : Nat) (f5 f6 : Int32) (a3 a10 a11 a12 a13 a14 a15 a16 a17 : Nat → Int32) : Prop :=
  (∀ r, r < 32 → (sf_bt f5 r = true ↔ r < n ∧ sf_pl a3 r)) ∧
  ∃ (S : Nat) (B : Nat → Nat), sf_St f6 a10 a11 S B ∧ (∀ s, s < S → sf_ch a13 a14 (sf_us (a10 (B s)) f5) n 400 n (a12 s)) ∧ sf_tr a15 a16 a17 B 5 0 0 S
def sf_Inv (u : St1) : Prop := match u with
  | (f1, f2, f3, f4, f5, f6, f7, f8, a1, a2, a3, a4, a5, a6, a7, a8, a9, a10, a11, a12, a13, a14, a15, a16, a17, a18, a19, a20, a21, a22, a23) => ∃ n, sf_I0 n f3 f4 a3 a6 a21 ∧ (f8 = 0 ∨ sf_C n f5 f6 a3 a10 a11 a12 a13 a14 a15 a16 a17)
def sf_Cp (u : St1) : Prop := match u with
  | (f1, f2, f3, f4, f5, f6, f7, f8, a1, a2, a3, a4, a5, a6, a7, a8, a9, a10, a11, a12, a13, a14, a15, a16, a17, a18, a19, a20, a21, a22, a23) => ∃ n, sf_I0 n f3 f4 a3 a6 a21 ∧ ¬ f8 = 0 ∧ sf_C n f5 f6 a3 a10 a11 a12 a13 a14 a15 a16 a17
theorem sf_cp_inv {u : St1} (h : sf_Cp u) : sf_Inv u := by
  obtain ⟨f1, f2, f3, f4, f5, f6, f7, f8, a1, a2, a3, a4, a5, a6, a7, a8, a9, a10, a11, a12, a13, a14, a15, a16, a17, a18, a19, a20, a21, a22, a23⟩ := u
  obtain ⟨n, h0, _, hc⟩ := h
  exact ⟨n, h0, Or.inr hc⟩
theorem sf_W_upd {a : Nat → Int32} {c : Nat} {x : Int32} (h : sf_W a) (hx : ∃ w, w < 16 ∧ x = nI w) : sf_W (upd a c x) := by
  intro j hj
  by_cases e : j = c
  · subst e; rw [pk_us]; exact hx
  · rw [pk_un e]; exact h j hj
theorem sf_A_upd {a : Nat → Int32} {c : Nat} {x : Int32} (h : sf_A a) (hx : ∃ w, w < 4 ∧ x = nI w) : sf_A (upd a c x) := by
  intro j hj
  by_cases e : j = c
  · subst e; rw [pk_us]; exact hx
  · rw [pk_un e]; exact h j hj
theorem sf_D_upd {a : Nat → Int32} {c : Nat} {x : Int32} (h : sf_D a) (hx : ∃ w, w < 16 ∧ x = nI w) : sf_D (upd a c x) := by
  intro j hj
  by_cases e : j = c
  · subst e; rw [pk_us]; exact hx
  · rw [pk_un e]; exact h j hj
theorem sf_2ik (i k : Nat) : (2 : Int32) * nI i + nI k = nI (2 * i + k) := by
  rw [show (2 : Int32) = nI 2 from rfl, pk_mul, nI_add]
theorem sf_2i (i : Nat) : (2 : Int32) * nI i = nI (2 * i) := by
  rw [show (2 : Int32) = nI 2 from rfl, pk_mul]
theorem sf_2i1 (i : Nat) : (2 : Int32) * nI i + 1 = nI (2 * i + 1) := by
  rw [sf_2i, nI_1]
theorem sf_not1 : ¬ (1 : Int32) = 0 := by decide
/-! small questions -/
theorem sf_isAction {post : Int32 → Prop} {u : St2} {p : Int32} (H0 : post 0) (H1 : ∀ s, s < 4 → p = nI s → post 1) : wpX_isAction post u p := by
  unfold wpX_isAction
  refine br_c (fun _ => H0) (fun h => br_c (fun _ => H0) (fun g => ?_))
  obtain ⟨j, hj, e⟩ := nI_of2 (M := 3) (n := 3) (by decide) h (Int32.not_lt.mp g)
  exact H1 j (by omega) e
theorem sf_isNumber {post : Int32 → Prop} {u : St2} {p : Int32} (H0 : post 0) (H1 : ∀ s, s < 32 → p = nI s → post 1) : wpX_isNumber post u p := by
  unfold wpX_isNumber
  refine br_c (fun _ => H0) (fun h => br_c (fun _ => H0) (fun g => ?_))
  obtain ⟨j, hj, e⟩ := nI_of h
  refine H1 j ?_ e
  rcases Nat.lt_or_ge j 32 with q | q
  · exact q
  · rw [e] at g
    exact absurd (nI_le (a := 32) q hj) g
/-- a number that is one -/
theorem sf_isNum1 {post : Int32 → Prop} {u : St2} {k : Nat} (hk : k < 32) (H : post 1) : wpX_isNumber post u (nI k) := by
  unfold wpX_isNumber
  exact br_f (nI_pos (by omega)) (br_f (nI_ge (b := 32) hk (by decide)) H)
theorem sf_isRule {post : Int32 → Prop} {f1 f2 f3 f4 f5 f6 f7 f8 : Int32} {a1 a2 a3 a4 a5 a6 a7 a8 a9 a10 a11 a12 a13 a14 a15 a16 a17 a18 a19 a20 a21 a22 a23 : Nat → Int32} {p : Int32} {n : Nat} (hn : n ≤ 12) (h3 : f3 = nI n) (H0 : post 0) (H1 : ∀ s, s < n → p = nI s → post 1) : wpX_isRule post (f1, f2, f3, f4, f5, f6, f7, f8, a1, a2, a3, a4, a5, a6, a7, a8, a9, a10, a11, a12, a13, a14, a15, a16, a17, a18, a19, a20, a21, a22, a23) p := by
  unfold wpX_isRule
  dsimp only
  refine br_c (fun _ => H0) (fun h => br_c (fun _ => H0) (fun g => ?_))
  obtain ⟨j, hj, e⟩ := nI_of h
  refine H1 j ?_ e
  rcases Nat.lt_or_ge j n with q | q
  · exact q
  · rw [e, h3] at g
    exact absurd (nI_le q hj) g
theorem sf_isRule1 {post : Int32 → Prop} {f1 f2 f3 f4 f5 f6 f7 f8 : Int32} {a1 a2 a3 a4 a5 a6 a7 a8 a9 a10 a11 a12 a13 a14 a15 a16 a17 a18 a19 a20 a21 a22 a23 : Nat → Int32} {r n : Nat} (hn : n ≤ 12) (h3 : f3 = nI n) (hr : r < n) (H : post 1) : wpX_isRule post (f1, f2, f3, f4, f5, f6, f7, f8, a1, a2, a3, a4, a5, a6, a7, a8, a9, a10, a11, a12, a13, a14, a15, a16, a17, a18, a19, a20, a21, a22, a23) (nI r) := by
  unfold wpX_isRule
  dsimp only
  rw [h3]
  exact br_f (nI_pos (by omega)) (br_f (nI_ge hr (by omega)) H)
/-! the calls that store into a draft or a field -/
theorem sf_range {post : Int32 → St1 → Prop} {u : St1} {p q : Int32} (h : sf_Inv u) (H : ∀ r u', sf_Inv u' → post r u') : wpX_range post u p q := by
  obtain ⟨f1, f2, f3, f4, f5, f6, f7, f8, a1, a2, a3, a4, a5, a6, a7, a8, a9, a10, a11, a12, a13, a14, a15, a16, a17, a18, a19, a20, a21, a22, a23⟩ := u
  have h' := h
  obtain ⟨n, h0, hc⟩ := h'
  unfold wpX_range
  dsimp only
  refine sf_isNumber (br_t rfl (H _ _ h)) (fun _ _ _ => br_f sf_not1 ?_)
  refine sf_isNumber (br_t rfl (H _ _ h)) (fun _ _ _ => br_f sf_not1 ?_)
  exact br_c (fun _ => H _ _ ⟨n, h0, hc⟩) (fun _ => H _ _ h)
theorem sf_argument {post : Int32 → St1 → Prop} {u : St1} {p q : Int32} (h : sf_Inv u) (H : ∀ r u', sf_Inv u' → post r u') : wpX_argument post u p q := by
  obtain ⟨f1, f2, f3, f4, f5, f6, f7, f8, a1, a2, a3, a4, a5, a6, a7, a8, a9, a10, a11, a12, a13, a14, a15, a16, a17, a18, a19, a20, a21, a22, a23⟩ := u
  have h' := h
  obtain ⟨n, h0, hc⟩ := h'
  unfold wpX_argument
  dsimp only
  refine br_c (fun e => ⟨pk_in 0 2 (by omega) e, nm_e (H _ _ ⟨n, h0, hc⟩)⟩) (fun _ => br_c (fun e => ⟨pk_in 1 2 (by omega) e, nm_e (H _ _ ⟨n, h0, hc⟩)⟩) (fun _ => H _ _ h))
theorem sf_fallback {post : Int32 → St1 → Prop} {u : St1} {p : Int32} (h : sf_Inv u) (H : ∀ r u', sf_Inv u' → post r u') : wpX_fallback post u p := by
  obtain ⟨f1, f2, f3, f4, f5, f6, f7, f8, a1, a2, a3, a4, a5, a6, a7, a8, a9, a10, a11, a12, a13, a14, a15, a16, a17, a18, a19, a20, a21, a22, a23⟩ := u
  unfold wpX_fallback
  dsimp only
  refine sf_isAction (br_t rfl (H _ _ h)) (fun s hs e => br_f sf_not1 (H _ _ ?_))
  obtain ⟨n, ⟨h1, h2, _, h4, h5, h6⟩, hc⟩ := h
  exact ⟨n, ⟨h1, h2, ⟨s, hs, e⟩, h4, h5, h6⟩, hc⟩
theorem sf_change {post : Int32 → St1 → Prop} {u : St1} {p q : Int32} (h : sf_Inv u) (H : ∀ r u', sf_Inv u' → post r u') : wpX_change post u p q := by
  obtain ⟨f1, f2, f3, f4, f5, f6, f7, f8, a1, a2, a3, a4, a5, a6, a7, a8, a9, a10, a11, a12, a13, a14, a15, a16, a17, a18, a19, a20, a21, a22, a23⟩ := u
  have h' := h
  obtain ⟨n, ⟨h1, h2, h3, h4, h5, h6⟩, hc⟩ := h'
  unfold wpX_change
  dsimp only
  refine sf_isRule h1 h2 (br_t rfl (H _ _ h)) (fun r hr er => br_f sf_not1 ?_)
  refine sf_isAction (br_t rfl (H _ _ h)) (fun s hs e => br_f sf_not1 ?_)
  refine ⟨pk_in r 13 (by omega) er, nm_e ⟨pk_in r 13 (by omega) er, nm_e (H _ _ ?_)⟩⟩
  exact ⟨n, ⟨h1, h2, h3, h4, sf_A_upd h5 ⟨s, hs, e⟩, h6⟩, hc⟩
theorem sf_condition {post : Int32 → St1 → Prop} {u : St1} {p q r s : Int32} (h : sf_Inv u) (H : ∀ r u', sf_Inv u' → post r u') : wpX_condition post u p q r s := by
  obtain ⟨f1, f2, f3, f4, f5, f6, f7, f8, a1, a2, a3, a4, a5, a6, a7, a8, a9, a10, a11, a12, a13, a14, a15, a16, a17, a18, a19, a20, a21, a22, a23⟩ := u
  have key : vp_in p 2 → wX_condition_11 post p q r s f1 f2 f3 f4 f5 f6 f7 f8 a1 a2 a3 a4 a5 a6 a7 a8 a9 a10 a11 a12 a13 a14 a15 a16 a17 a18 a19 a20 a21 a22 a23 := by
    intro hp
    have h' := h
    obtain ⟨n, ⟨h1, h2, h3, h4, h5, h6⟩, hc⟩ := h'
    unfold wX_condition_11
    refine br_c (fun _ => H _ _ h) (fun g0 => br_c (fun _ => H _ _ h) (fun g1 => br_c (fun _ => H _ _ h) (fun _ => ?_)))
    obtain ⟨j, hj, e⟩ := nI_of2 (M := 15) (n := 15) (by decide) g0 (Int32.not_lt.mp g1)
    refine ⟨hp, nm_e ⟨hp, nm_e ⟨hp, nm_e (H _ _ ?_)⟩⟩⟩
    exact ⟨n, ⟨h1, h2, h3, h4, h5, sf_D_upd h6 ⟨j, by omega, e⟩⟩, hc⟩
  unfold wpX_condition
  dsimp only
  exact br_c (fun e => key (pk_in 0 2 (by omega) e)) (fun _ => br_c (fun e => key (pk_in 1 2 (by omega) e)) (fun _ => H _ _ h))
end
section
/-! the calls that move rules -/
theorem sf_carry38 {post : St1 → Prop} {f1 f2 f3 f4 f5 f6 f7 f8 : Int32} {a1 a2 a6 a7 a8 a9 a10 a11 a12 a13 a14 a15 a16 a17 a18 a19 a20 a21 a22 a23 : Nat → Int32} {i j : Nat} (hi : i < 13) (hj : j < 13)
    (H : ∀ b3 b4 b5, sf_W b3 → post (f1, f2, f3, f4, f5, f6, f7, f8, a1, a2, b3, b4, b5, a6, a7, a8, a9, a10, a11, a12, a13, a14, a15, a16, a17, a18, a19, a20, a21, a22, a23)) :
    ∀ m k, k + m = 2 → ∀ b3 b4 b5, sf_W b3 → wX_carry_38 post (nI i) (nI j) f1 f2 f3 f4 f5 f6 f7 f8 (m + 1) (nI k) a1 a2 b3 b4 b5 a6 a7 a8 a9 a10 a11 a12 a13 a14 a15 a16 a17 a18 a19 a20 a21 a22 a23 := by
  intro m
  induction m with
  | zero =>
    intro k hk b3 b4 b5 hb
    exact pk_le 2 k (fun _ => H b3 b4 b5 hb) (fun z => absurd z (by omega))
  | succ m ih =>
    intro k hk b3 b4 b5 hb
    refine pk_le 2 k (fun z => absurd z (by omega)) (fun z => ?_)
    have vi : vp_in (2 * nI i + nI k) 26 := pk_in (2 * i + k) 26 (by omega) (sf_2ik i k)
    have vj : vp_in (2 * nI j + nI k) 26 := pk_in (2 * j + k) 26 (by omega) (sf_2ik j k)
    refine ⟨vi, vj, nm_e ⟨vi, vj, nm_e ⟨vi, vj, nm_e (nm_r (nI_1 k) (ih (k + 1) (by omega) _ _ _ (sf_W_upd hb ?_)))⟩⟩⟩
    rw [pk_cl (2 * i + k) (sf_2ik i k)]
    exact hb _ (by omega)
theorem sf_carry {post : St1 → Prop} {f1 f2 f3 f4 f5 f6 f7 f8 : Int32} {a1 a2 a3 a4 a5 a6 a7 a8 a9 a10 a11 a12 a13 a14 a15 a16 a17 a18 a19 a20 a21 a22 a23 : Nat → Int32} {i j : Nat} {x y : Int32} (hx : x = nI i) (hy : y = nI j) (hi : i < 13) (hj : j < 13) (h3 : sf_W a3) (h6 : sf_A a6)
    (H : ∀ b1 b2 b3 b4 b5 b6, sf_W b3 → sf_A b6 → post (f1, f2, f3, f4, f5, f6, f7, f8, b1, b2, b3, b4, b5, b6, a7, a8, a9, a10, a11, a12, a13, a14, a15, a16, a17, a18, a19, a20, a21, a22, a23)) : wpX_carry post (f1, f2, f3, f4, f5, f6, f7, f8, a1, a2, a3, a4, a5, a6, a7, a8, a9, a10, a11, a12, a13, a14, a15, a16, a17, a18, a19, a20, a21, a22, a23) x y := by
  subst hx hy
  unfold wpX_carry
  dsimp only
  have vi : vp_in (nI i) 13 := pk_in i 13 hi
  have vj : vp_in (nI j) 13 := pk_in j 13 hj
  refine ⟨vi, vj, nm_e ⟨vi, vj, nm_e ⟨vi, vj, nm_e ⟨3, sf_carry38 hi hj (fun b3 b4 b5 hb => H _ _ b3 b4 b5 _ hb ?_) 2 0 (by omega) _ _ _ h3⟩⟩⟩⟩
  refine sf_A_upd h6 ?_
  rw [nI_clamp (show i < 2 ^ 31 by omega)]
  exact h6 i hi
/-! remove -/
theorem sf_remove21 {post : Int32 → St1 → Prop} {f1 f2 f4 f5 f6 f7 f8 : Int32} {a7 a8 a9 a10 a11 a12 a13 a14 a15 a16 a17 a18 a19 a20 a21 a22 a23 : Nat → Int32} {x2 : Int32} {n : Nat} (hn : n ≤ 12) (hn1 : 1 ≤ n)
    (H : ∀ b1 b2 b3 b4 b5 b6, sf_W b3 → sf_A b6 → post x2 (f1, f2, (nI (n - 1)), f4, f5, f6, f7, 0, b1, b2, b3, b4, b5, b6, a7, a8, a9, a10, a11, a12, a13, a14, a15, a16, a17, a18, a19, a20, a21, a22, a23)) :
    ∀ m i, i + m = n → 1 ≤ i → ∀ b1 b2 b3 b4 b5 b6, sf_W b3 → sf_A b6 → wX_remove_21 post x2 (m + 1) (nI i) f1 f2 (nI n) f4 f5 f6 f7 f8 b1 b2 b3 b4 b5 b6 a7 a8 a9 a10 a11 a12 a13 a14 a15 a16 a17 a18 a19 a20 a21 a22 a23 := by
  intro m
  induction m with
  | zero =>
    intro i hi h1 b1 b2 b3 b4 b5 b6 w3 w6
    refine pk_le n i (fun _ => nm_r (pk_sub (b := 1) hn1) (H b1 b2 b3 b4 b5 b6 w3 w6)) (fun z => absurd z (by omega))
  | succ m ih =>
    intro i hi h1 b1 b2 b3 b4 b5 b6 w3 w6
    refine pk_le n i (fun z => absurd z (by omega)) (fun z => ?_)
    refine sf_carry (i := i) (j := i - 1) rfl (pk_sub (b := 1) h1) (by omega) (by omega) w3 w6 ?_
    intro c1 c2 c3 c4 c5 c6 v3 v6
    dsimp only
    exact nm_r (nI_1 i) (ih (i + 1) (by omega) (by omega) c1 c2 c3 c4 c5 c6 v3 v6)
theorem sf_remove {post : Int32 → St1 → Prop} {u : St1} {p : Int32} (h : sf_Inv u) (H : ∀ r u', sf_Inv u' → post r u') : wpX_remove post u p := by
  obtain ⟨f1, f2, f3, f4, f5, f6, f7, f8, a1, a2, a3, a4, a5, a6, a7, a8, a9, a10, a11, a12, a13, a14, a15, a16, a17, a18, a19, a20, a21, a22, a23⟩ := u
  have h' := h
  obtain ⟨n, ⟨h1, h2, h3, h4, h5, h6⟩, hc⟩ := h'
  unfold wpX_remove
  dsimp only
  refine sf_isRule h1 h2 (br_t rfl (H _ _ h)) (fun r hr er => br_f sf_not1 ?_)
  refine ⟨pk_in r 13 (by omega) er, nm_e (nm_r (show p + 1 = nI (r + 1) by rw [er, nI_1]) ?_)⟩
  subst h2
  refine ⟨_, sf_remove21 h1 (by omega) ?_ (n - (r + 1)) (r + 1) (by omega) (by omega) a1 a2 a3 a4 a5 a6 h4 h5⟩
  intro b1 b2 b3 b4 b5 b6 w3 w6
  exact H _ _ ⟨n - 1, ⟨by omega, rfl, h3, w3, w6, h6⟩, Or.inl rfl⟩
/-! put -/
theorem sf_put89 {post : Int32 → St1 → Prop} {f1 f2 f4 f5 f6 f7 f8 : Int32} {a1 a2 a6 a7 a8 a9 a10 a11 a12 a13 a14 a15 a16 a17 a18 a19 a20 a21 a22 a23 : Nat → Int32} {p n : Nat} (hp : p ≤ 11) (hd : sf_D a21)
    (H : ∀ b3 b4 b5, sf_W b3 → post (nI (n + 1)) (f1, f2, (nI (n + 1)), f4, f5, f6, f7, 0, a1, a2, b3, b4, b5, a6, a7, a8, a9, a10, a11, a12, a13, a14, a15, a16, a17, a18, a19, a20, a21, a22, a23)) :
    ∀ m k, k + m = 2 → ∀ b3 b4 b5, sf_W b3 → wX_put_89 post (nI p) f1 f2 (nI n) f4 f5 f6 f7 f8 (m + 1) (nI k) a1 a2 b3 b4 b5 a6 a7 a8 a9 a10 a11 a12 a13 a14 a15 a16 a17 a18 a19 a20 a21 a22 a23 := by
  intro m
  induction m with
  | zero =>
    intro k hk b3 b4 b5 hb
    exact pk_le 2 k (fun _ => nm_r (nI_1 n) (H b3 b4 b5 hb)) (fun z => absurd z (by omega))
  | succ m ih =>
    intro k hk b3 b4 b5 hb
    refine pk_le 2 k (fun z => absurd z (by omega)) (fun z => ?_)
    have vk : vp_in (nI k) 2 := pk_in k 2 (by omega)
    have vi : vp_in (2 * nI p + nI k) 26 := pk_in (2 * p + k) 26 (by omega) (sf_2ik p k)
    refine ⟨vk, vi, nm_e ⟨vk, vi, nm_e ⟨vk, vi, nm_e (nm_r (nI_1 k) (ih (k + 1) (by omega) _ _ _ (sf_W_upd hb ?_)))⟩⟩⟩
    rw [nI_clamp (show k < 2 ^ 31 by omega)]
    exact hd k (by omega)
theorem sf_put41 {post : Int32 → St1 → Prop} {f1 f2 f4 f5 f6 f7 f8 : Int32} {a7 a8 a9 a10 a11 a12 a13 a14 a15 a16 a17 a18 a19 a20 a21 a22 a23 : Nat → Int32} {p n s : Nat} (hn : n ≤ 11) (hp : p ≤ n) (hs : s < 4) (hd : sf_D a21)
    (H : ∀ b1 b2 b3 b4 b5 b6, sf_W b3 → sf_A b6 → post (nI (n + 1)) (f1, f2, (nI (n + 1)), f4, f5, f6, f7, 0, b1, b2, b3, b4, b5, b6, a7, a8, a9, a10, a11, a12, a13, a14, a15, a16, a17, a18, a19, a20, a21, a22, a23)) :
    ∀ m i, i = p + m → i ≤ n → ∀ b1 b2 b3 b4 b5 b6, sf_W b3 → sf_A b6 → wX_put_41 post (nI p) (nI s) (m + 1) (nI i) f1 f2 (nI n) f4 f5 f6 f7 f8 b1 b2 b3 b4 b5 b6 a7 a8 a9 a10 a11 a12 a13 a14 a15 a16 a17 a18 a19 a20 a21 a22 a23 := by
  intro m
  induction m with
  | zero =>
    intro i hi h1 b1 b2 b3 b4 b5 b6 w3 w6
    refine pk_le i p (fun _ => ?_) (fun z => absurd z (by omega))
    have vp : vp_in (nI p) 13 := pk_in p 13 (by omega)
    refine ⟨vp, nm_e ⟨vp, nm_e ⟨vp, nm_e ⟨3, sf_put89 (by omega) hd ?_ 2 0 (by omega) _ _ _ w3⟩⟩⟩⟩
    intro c3 c4 c5 v3
    exact H _ _ c3 c4 c5 _ v3 (sf_A_upd w6 ⟨s, hs, rfl⟩)
  | succ m ih =>
    intro i hi h1 b1 b2 b3 b4 b5 b6 w3 w6
    refine pk_le i p (fun z => absurd z (by omega)) (fun z => ?_)
    refine sf_carry (i := i - 1) (j := i) (pk_sub (b := 1) (by omega)) rfl (by omega) (by omega) w3 w6 ?_
    intro c1 c2 c3 c4 c5 c6 v3 v6
    dsimp only
    exact nm_r (sb_m1 (by omega)) (ih (i - 1) (by omega) (by omega) c1 c2 c3 c4 c5 c6 v3 v6)
theorem sf_put {post : Int32 → St1 → Prop} {u : St1} {p q : Int32} (h : sf_Inv u) (H : ∀ r u', sf_Inv u' → post r u') : wpX_put post u p q := by
  obtain ⟨f1, f2, f3, f4, f5, f6, f7, f8, a1, a2, a3, a4, a5, a6, a7, a8, a9, a10, a11, a12, a13, a14, a15, a16, a17, a18, a19, a20, a21, a22, a23⟩ := u
  have h' := h
  obtain ⟨n, ⟨h1, h2, h3, h4, h5, h6⟩, hc⟩ := h'
  unfold wpX_put
  dsimp only
  refine br_c (fun _ => H _ _ h) (fun g0 => br_c (fun g1 => ?_) (fun _ => H _ _ h))
  refine sf_isAction (br_t rfl (H _ _ h)) (fun s hs es => br_f sf_not1 ?_)
  refine br_c (fun _ => H _ _ h) (fun g2 => ?_)
  subst h2
  obtain ⟨j, hj, e⟩ := nI_of g0
  subst es e
  have hjn : j ≤ n := (nI_leI hj (by omega)).mp g1
  have hn : n ≠ 12 := fun z => g2 (by rw [z]; rfl)
  refine ⟨_, sf_put41 (by omega) hjn hs h6 ?_ (n - j) n (by omega) (by omega) a1 a2 a3 a4 a5 a6 h4 h5⟩
  intro b1 b2 b3 b4 b5 b6 w3 w6
  exact H _ _ ⟨n + 1, ⟨by omega, rfl, h3, w3, w6, h6⟩, Or.inl rfl⟩
/-! move -/
theorem sf_move51 {post : Int32 → St1 → Prop} {f1 f2 f3 f4 f5 f6 f7 f8 : Int32} {a7 a8 a9 a10 a11 a12 a13 a14 a15 a16 a17 a18 a19 a20 a21 a22 a23 : Nat → Int32} {q : Nat} (hq : q < 12)
    (H : ∀ b1 b2 b3 b4 b5 b6, sf_W b3 → sf_A b6 → post 0 (f1, f2, f3, f4, f5, f6, f7, 0, b1, b2, b3, b4, b5, b6, a7, a8, a9, a10, a11, a12, a13, a14, a15, a16, a17, a18, a19, a20, a21, a22, a23)) :
    ∀ m i, i ≤ q + m → i < 12 → ∀ b1 b2 b3 b4 b5 b6, sf_W b3 → sf_A b6 → wX_move_51 post (nI q) (m + 1) (nI i) f1 f2 f3 f4 f5 f6 f7 f8 b1 b2 b3 b4 b5 b6 a7 a8 a9 a10 a11 a12 a13 a14 a15 a16 a17 a18 a19 a20 a21 a22 a23 := by
  intro m
  induction m with
  | zero =>
    intro i hi h1 b1 b2 b3 b4 b5 b6 w3 w6
    refine pk_le i q (fun _ => ?_) (fun z => absurd z (by omega))
    refine sf_carry (i := 12) (j := q) rfl rfl (by omega) (by omega) w3 w6 ?_
    intro c1 c2 c3 c4 c5 c6 v3 v6
    exact H c1 c2 c3 c4 c5 c6 v3 v6
  | succ m ih =>
    intro i hi h1 b1 b2 b3 b4 b5 b6 w3 w6
    refine pk_le i q (fun _ => ?_) (fun z => ?_)
    · refine sf_carry (i := 12) (j := q) rfl rfl (by omega) (by omega) w3 w6 ?_
      intro c1 c2 c3 c4 c5 c6 v3 v6
      exact H c1 c2 c3 c4 c5 c6 v3 v6
    · refine sf_carry (i := i - 1) (j := i) (pk_sub (b := 1) (by omega)) rfl (by omega) (by omega) w3 w6 ?_
      intro c1 c2 c3 c4 c5 c6 v3 v6
      dsimp only
      exact nm_r (sb_m1 (by omega)) (ih (i - 1) (by omega) (by omega) c1 c2 c3 c4 c5 c6 v3 v6)
theorem sf_move30 {post : Int32 → St1 → Prop} {f1 f2 f3 f4 f5 f6 f7 f8 : Int32} {a7 a8 a9 a10 a11 a12 a13 a14 a15 a16 a17 a18 a19 a20 a21 a22 a23 : Nat → Int32} {p q : Nat} (hp : p < 12) (hq : q < 12)
    (H : ∀ b1 b2 b3 b4 b5 b6, sf_W b3 → sf_A b6 → post 0 (f1, f2, f3, f4, f5, f6, f7, 0, b1, b2, b3, b4, b5, b6, a7, a8, a9, a10, a11, a12, a13, a14, a15, a16, a17, a18, a19, a20, a21, a22, a23)) :
    ∀ m i, q ≤ i + m → i < 12 → ∀ b1 b2 b3 b4 b5 b6, sf_W b3 → sf_A b6 → wX_move_30 post (nI p) (nI q) (m + 1) (nI i) f1 f2 f3 f4 f5 f6 f7 f8 b1 b2 b3 b4 b5 b6 a7 a8 a9 a10 a11 a12 a13 a14 a15 a16 a17 a18 a19 a20 a21 a22 a23 := by
  intro m
  induction m with
  | zero =>
    intro i hi h1 b1 b2 b3 b4 b5 b6 w3 w6
    refine pk_le q i (fun _ => ?_) (fun z => absurd z (by omega))
    exact ⟨_, sf_move51 hq H p p (by omega) hp b1 b2 b3 b4 b5 b6 w3 w6⟩
  | succ m ih =>
    intro i hi h1 b1 b2 b3 b4 b5 b6 w3 w6
    refine pk_le q i (fun _ => ?_) (fun z => ?_)
    · exact ⟨_, sf_move51 hq H p p (by omega) hp b1 b2 b3 b4 b5 b6 w3 w6⟩
    · refine sf_carry (i := i + 1) (j := i) (nI_1 i) rfl (by omega) (by omega) w3 w6 ?_
      intro c1 c2 c3 c4 c5 c6 v3 v6
      dsimp only
      exact nm_r (nI_1 i) (ih (i + 1) (by omega) (by omega) c1 c2 c3 c4 c5 c6 v3 v6)
theorem sf_move {post : Int32 → St1 → Prop} {u : St1} {p q : Int32} (h : sf_Inv u) (H : ∀ r u', sf_Inv u' → post r u') : wpX_move post u p q := by
  obtain ⟨f1, f2, f3, f4, f5, f6, f7, f8, a1, a2, a3, a4, a5, a6, a7, a8, a9, a10, a11, a12, a13, a14, a15, a16, a17, a18, a19, a20, a21, a22, a23⟩ := u
  have h' := h
  obtain ⟨n, ⟨h1, h2, h3, h4, h5, h6⟩, hc⟩ := h'
  unfold wpX_move
  dsimp only
  refine sf_isRule h1 h2 (br_t rfl (H _ _ h)) (fun r hr er => br_f sf_not1 ?_)
  refine sf_isRule h1 h2 (br_t rfl (H _ _ h)) (fun s hs es => br_f sf_not1 ?_)
  subst er es
  refine sf_carry (i := r) (j := 12) rfl rfl (by omega) (by omega) h4 h5 ?_
  intro c1 c2 c3 c4 c5 c6 v3 v6
  dsimp only
  refine ⟨_, sf_move30 (by omega) (by omega) ?_ s r (by omega) (by omega) c1 c2 c3 c4 c5 c6 v3 v6⟩
  intro b1 b2 b3 b4 b5 b6 w3 w6
  exact H _ _ ⟨n, ⟨h1, h2, h3, w3, w6, h6⟩, Or.inl rfl⟩
/-! one turn -/
theorem sf_turn {post : St1 → Prop} {u : St1} {c d e : Int32} (h : sf_Inv u) (H : ∀ u', sf_Inv u' → post u') : wpL_turn post u c d e := by
  obtain ⟨f1, f2, f3, f4, f5, f6, f7, f8, a1, a2, a3, a4, a5, a6, a7, a8, a9, a10, a11, a12, a13, a14, a15, a16, a17, a18, a19, a20, a21, a22, a23⟩ := u
  have h' := h
  obtain ⟨n, ⟨h1, h2, _, _, _, _⟩, _⟩ := h'
  have k141 : ∀ z0 z1 z2 z3, wL_turn_141 post z0 z1 z2 z3 f1 f2 f3 f4 f5 f6 f7 f8 a1 a2 a3 a4 a5 a6 a7 a8 a9 a10 a11 a12 a13 a14 a15 a16 a17 a18 a19 a20 a21 a22 a23 := by
    intro z0 z1 z2 z3
    unfold wL_turn_141
    exact sf_condition h (fun r u' hu => by obtain ⟨_, _, _, _, _, _, _, _, _, _, _, _, _, _, _, _, _, _, _, _, _, _, _, _, _, _, _, _, _, _, _⟩ := u'; exact H _ hu)
  have k121 : ∀ x2 x3 z0 z1 z2, wL_turn_121 post x2 x3 z0 z1 z2 f1 f2 f3 f4 f5 f6 f7 f8 a1 a2 a3 a4 a5 a6 a7 a8 a9 a10 a11 a12 a13 a14 a15 a16 a17 a18 a19 a20 a21 a22 a23 := by
    intro x2 x3 z0 z1 z2
    unfold wL_turn_121
    exact br_c (fun _ => k141 _ _ _ _) (fun _ => k141 _ _ _ _)
  have k61 : ∀ z0 z1, wL_turn_61 post z0 z1 f1 f2 f3 f4 f5 f6 f7 f8 a1 a2 a3 a4 a5 a6 a7 a8 a9 a10 a11 a12 a13 a14 a15 a16 a17 a18 a19 a20 a21 a22 a23 := by
    intro z0 z1
    unfold wL_turn_61
    exact sf_range h (fun r u' hu => by obtain ⟨_, _, _, _, _, _, _, _, _, _, _, _, _, _, _, _, _, _, _, _, _, _, _, _, _, _, _, _, _, _, _⟩ := u'; exact H _ hu)
  have k47 : ∀ x6 x7 z0, wL_turn_47 post x6 x7 z0 f1 f2 f3 f4 f5 f6 f7 f8 a1 a2 a3 a4 a5 a6 a7 a8 a9 a10 a11 a12 a13 a14 a15 a16 a17 a18 a19 a20 a21 a22 a23 := by
    intro x6 x7 z0
    unfold wL_turn_47
    exact br_c (fun _ => k61 _ _) (fun _ => k61 _ _)
  unfold wpL_turn
  dsimp only
  refine nm_e ?_
  unfold wpX_rules
  dsimp only
  refine nm_e (nm_e ?_)
  refine br_c (fun _ => ?_) (fun _ => br_c (fun _ => k47 _ _ _) (fun _ => k47 _ _ _))
  refine br_c (fun _ => sf_range h (fun r u' hu => by obtain ⟨_, _, _, _, _, _, _, _, _, _, _, _, _, _, _, _, _, _, _, _, _, _, _, _, _, _, _, _, _, _, _⟩ := u'; exact H _ hu)) (fun _ => ?_)
  refine br_c (fun _ => ?_) (fun _ => ⟨by decide, br_c (fun _ => k121 _ _ _ _ _) (fun _ => k121 _ _ _ _ _)⟩)
  refine br_c (fun _ => sf_condition h (fun r u' hu => by obtain ⟨_, _, _, _, _, _, _, _, _, _, _, _, _, _, _, _, _, _, _, _, _, _, _, _, _, _, _, _, _, _, _⟩ := u'; exact H _ hu)) (fun _ => ?_)
  refine br_c (fun _ => ?_) (fun _ => ⟨?_, sf_put h (fun r u' hu => by obtain ⟨_, _, _, _, _, _, _, _, _, _, _, _, _, _, _, _, _, _, _, _, _, _, _, _, _, _, _, _, _, _, _⟩ := u'; exact H _ hu)⟩)
  · refine br_c (fun _ => sf_remove h (fun r u' hu => by obtain ⟨_, _, _, _, _, _, _, _, _, _, _, _, _, _, _, _, _, _, _, _, _, _, _, _, _, _, _, _, _, _, _⟩ := u'; exact H _ hu)) (fun _ => ?_)
    refine br_c (fun _ => sf_move h (fun r u' hu => by obtain ⟨_, _, _, _, _, _, _, _, _, _, _, _, _, _, _, _, _, _, _, _, _, _, _, _, _, _, _, _, _, _, _⟩ := u'; exact H _ hu)) (fun _ => ?_)
    refine br_c (fun _ => sf_change h (fun r u' hu => by obtain ⟨_, _, _, _, _, _, _, _, _, _, _, _, _, _, _, _, _, _, _, _, _, _, _, _, _, _, _, _, _, _, _⟩ := u'; exact H _ hu)) (fun _ => ?_)
    exact br_c (fun _ => sf_fallback h (fun r u' hu => by obtain ⟨_, _, _, _, _, _, _, _, _, _, _, _, _, _, _, _, _, _, _, _, _, _, _, _, _, _, _, _, _, _, _⟩ := u'; exact H _ hu)) (fun _ => sf_argument h (fun r u' hu => by obtain ⟨_, _, _, _, _, _, _, _, _, _, _, _, _, _, _, _, _, _, _, _, _, _, _, _, _, _, _, _, _, _, _⟩ := u'; exact H _ hu))
  · rw [h2, nI_1]
    exact nI_ne0 (by omega) (by omega)
end
section
/-! normalise: only the intervals change -/
theorem sf_normalise {post : St1 → Prop} {f1 f2 f3 f4 f5 f6 f7 f8 : Int32} {a1 a2 a3 a4 a5 a6 a7 a8 a9 a10 a11 a12 a13 a14 a15 a16 a17 a18 a19 a20 a21 a22 a23 : Nat → Int32} {c : Nat} {x : Int32} (hx : x = nI c) (hc : c < 24) (H : ∀ b7 b8 b9, post (f1, f2, f3, f4, f5, f6, f7, f8, a1, a2, a3, a4, a5, a6, b7, b8, b9, a10, a11, a12, a13, a14, a15, a16, a17, a18, a19, a20, a21, a22, a23)) : wpX_normalise post (f1, f2, f3, f4, f5, f6, f7, f8, a1, a2, a3, a4, a5, a6, a7, a8, a9, a10, a11, a12, a13, a14, a15, a16, a17, a18, a19, a20, a21, a22, a23) x := by
  subst hx
  have v24 : vp_in (nI c) 24 := pk_in c 24 hc
  have v26 : vp_in (nI c) 26 := pk_in c 26 (by omega)
  have k59 : ∀ x3 b7 b8 b9, wX_normalise_59 post (nI c) x3 f1 f2 f3 f4 f5 f6 f7 f8 a1 a2 a3 a4 a5 a6 b7 b8 b9 a10 a11 a12 a13 a14 a15 a16 a17 a18 a19 a20 a21 a22 a23 := by
    intro x3 b7 b8 b9
    unfold wX_normalise_59
    exact ⟨v24, nm_e ⟨v24, nm_e (H _ _ _)⟩⟩
  have k48 : ∀ x2 x3 z0 b7 b8, wX_normalise_48 post (nI c) x2 x3 z0 (nI c) f1 f2 f3 f4 f5 f6 f7 f8 a1 a2 a3 a4 a5 a6 b7 b8 a9 a10 a11 a12 a13 a14 a15 a16 a17 a18 a19 a20 a21 a22 a23 := by
    intro x2 x3 z0 b7 b8
    unfold wX_normalise_48
    refine ⟨v24, nm_e ?_⟩
    refine br_c (fun _ => k59 _ _ _ _) (fun _ => ?_)
    refine br_c (fun _ => k59 _ _ _ _) (fun _ => ?_)
    refine br_c (fun _ => ⟨v24, nm_e (H _ _ _)⟩) (fun _ => ?_)
    refine br_c (fun _ => ⟨v24, nm_e (H _ _ _)⟩) (fun _ => ?_)
    refine br_c (fun _ => ⟨v24, nm_e (br_c (fun _ => ⟨v24, nm_e ⟨v24, nm_e (H _ _ _)⟩⟩) (fun _ => H _ _ _))⟩) (fun _ => ?_)
    exact br_c (fun _ => ⟨v24, nm_e (br_c (fun _ => ⟨v24, nm_e ⟨v24, nm_e (H _ _ _)⟩⟩) (fun _ => H _ _ _))⟩) (fun _ => H _ _ _)
  unfold wpX_normalise
  dsimp only
  exact ⟨v26, nm_e ⟨v26, nm_e ⟨v24, nm_e ⟨v24, nm_e (br_c (fun _ => k48 _ _ _ _ _) (fun _ => k48 _ _ _ _ _))⟩⟩⟩⟩
/-! cutStretches -/
/-- behind k numbers: s stretches have begun, B s = k -/
def sf_Z (k s : Nat) (a10 a11 : Nat → Int32) (B : Nat → Nat) : Prop :=
  s ≤ k ∧ (0 < k → 0 < s) ∧ B 0 = 0 ∧ B s = k ∧ (∀ i, i < s → a11 i = nI (B i)) ∧ (∀ i, i < s → B i < B (i + 1)) ∧ (∀ i, i < s → ∀ j, B i ≤ j → j < B (i + 1) → a10 j = a10 (B i))
theorem sf_Z_0 (a10 a11 : Nat → Int32) : sf_Z 0 0 a10 a11 (fun _ => 0) :=
  ⟨Nat.le_refl 0, fun h => h, rfl, rfl, fun i h => absurd h (by omega), fun i h => absurd h (by omega), fun i h => absurd h (by omega)⟩
theorem sf_Z_cut {k s : Nat} {a10 a11 : Nat → Int32} {B : Nat → Nat} (h : sf_Z k s a10 a11 B) : ∃ B', sf_Z (k + 1) (s + 1) a10 (upd a11 s (nI k)) B' := by
  obtain ⟨h1, h2, h3, h4, h5, h6, h7⟩ := h
  have e : ∀ i, i ≤ s → (fun i => if i ≤ s then B i else k + 1) i = B i := fun i hi => if_pos hi
  have e2 : (fun i => if i ≤ s then B i else k + 1) (s + 1) = k + 1 := if_neg (by omega)
  refine ⟨fun i => if i ≤ s then B i else k + 1, by omega, fun _ => by omega, ?_, e2, ?_, ?_, ?_⟩
  · rw [e 0 (by omega)]; exact h3
  · intro i hi
    rw [e i (by omega)]
    by_cases q : i = s
    · subst q; rw [pk_us, h4]
    · rw [pk_un q]; exact h5 i (by omega)
  · intro i hi
    by_cases q : i = s
    · subst q; rw [e i (by omega), e2]; omega
    · rw [e i (by omega), e (i + 1) (by omega)]; exact h6 i (by omega)
  · intro i hi j g1 g2
    by_cases q : i = s
    · subst q
      rw [e i (by omega)] at g1 ⊢
      rw [e2] at g2
      rw [show j = B i by omega]
    · rw [e i (by omega)] at g1 ⊢
      rw [e (i + 1) (by omega)] at g2
      exact h7 i (by omega) j g1 g2
theorem sf_Z_go {k s : Nat} {a10 a11 : Nat → Int32} {B : Nat → Nat} (h : sf_Z k s a10 a11 B) (hk : 0 < k) (hv : a10 k = a10 (k - 1)) : ∃ B', sf_Z (k + 1) s a10 a11 B' := by
  obtain ⟨h1, h2, h3, h4, h5, h6, h7⟩ := h
  have hs := h2 hk
  have e : ∀ i, i < s → (fun i => if i < s then B i else k + 1) i = B i := fun i hi => if_pos hi
  have e2 : (fun i => if i < s then B i else k + 1) s = k + 1 := if_neg (by omega)
  refine ⟨fun i => if i < s then B i else k + 1, by omega, fun _ => hs, ?_, e2, ?_, ?_, ?_⟩
  · rw [e 0 hs]; exact h3
  · intro i hi
    rw [e i hi]; exact h5 i hi
  · intro i hi
    have q := h6 i hi
    by_cases g : i + 1 = s
    · rw [e i hi, g, e2]
      rw [g] at q
      omega
    · rw [e i hi, e (i + 1) (by omega)]; exact q
  · intro i hi j g1 g2
    rw [e i hi] at g1 ⊢
    by_cases g : i + 1 = s
    · rw [g, e2] at g2
      have q := h6 i hi
      rw [g, h4] at q
      rcases Nat.lt_or_ge j k with w | w
      · exact h7 i hi j g1 (by rw [g, h4]; exact w)
      · rw [show j = k by omega, hv]
        exact h7 i hi (k - 1) (by omega) (by rw [g, h4]; omega)
    · rw [e (i + 1) (by omega)] at g2
      exact h7 i hi j g1 g2
theorem sf_mono {B : Nat → Nat} {S : Nat} (h : ∀ i, i < S → B i < B (i + 1)) : ∀ m i, i + m = S → B i ≤ B S := by
  intro m
  induction m with
  | zero => intro i hi; rw [show i = S by omega]; exact Nat.le_refl _
  | succ m ih =>
    intro i hi
    have a := h i (by omega)
    have b := ih (i + 1) (by omega)
    omega
theorem sf_Z_end {s : Nat} {a10 a11 : Nat → Int32} {B : Nat → Nat} (h : sf_Z 32 s a10 a11 B) : sf_St (nI s) a10 (upd a11 s 32) s B := by
  obtain ⟨h1, h2, h3, h4, h5, h6, h7⟩ := h
  refine ⟨rfl, h2 (by omega), h1, h3, h4, ?_, ?_, h6, h7⟩
  · intro i hi
    by_cases q : i = s
    · subst q; rw [pk_us, h4]; rfl
    · rw [pk_un q]; exact h5 i (by omega)
  · intro i hi
    have := sf_mono h6 (s - i) i (by omega)
    omega
theorem sf_cut80 {post : St1 → Prop} {f1 f2 f3 f4 f5 f7 f8 : Int32} {a1 a2 a3 a4 a5 a6 a7 a8 a9 a10 a12 a13 a14 a15 a16 a17 a18 a19 a20 a21 a22 a23 : Nat → Int32} (H : ∀ g6 b11 S B, sf_St g6 a10 b11 S B → post (f1, f2, f3, f4, f5, g6, f7, f8, a1, a2, a3, a4, a5, a6, a7, a8, a9, a10, b11, a12, a13, a14, a15, a16, a17, a18, a19, a20, a21, a22, a23)) :
    ∀ m k, k + m = 32 → ∀ s b11 B, sf_Z k s a10 b11 B → wX_cutStretches_80 post f1 f2 f3 f4 f5 f7 f8 (m + 1) (nI k) (nI s) a1 a2 a3 a4 a5 a6 a7 a8 a9 a10 b11 a12 a13 a14 a15 a16 a17 a18 a19 a20 a21 a22 a23 := by
  intro m
  induction m with
  | zero =>
    intro k hk s b11 B hz
    have e : k = 32 := by omega
    subst e
    have hs := hz.1
    refine pk_le 32 32 (fun _ => ⟨pk_in s 33 (by omega), nm_r (by rw [nI_clamp (by omega)]) (H _ _ s B (sf_Z_end hz))⟩) (fun z => absurd z (by omega))
  | succ m ih =>
    intro k hk s b11 B hz
    have hs := hz.1
    have k107 : wX_cutStretches_107 post (wX_cutStretches_80 post f1 f2 f3 f4 f5 f7 f8 (m + 1)) (nI k) f1 f2 f3 f4 f5 (nI s) f7 f8 a1 a2 a3 a4 a5 a6 a7 a8 a9 a10 b11 a12 a13 a14 a15 a16 a17 a18 a19 a20 a21 a22 a23 := by
      unfold wX_cutStretches_107
      obtain ⟨B', hz'⟩ := sf_Z_cut hz
      exact ⟨pk_in s 33 (by omega), nm_r (by rw [nI_clamp (by omega)]) (nm_r (nI_1 s) (nm_r (nI_1 k) (ih (k + 1) (by omega) (s + 1) _ B' hz')))⟩
    refine pk_le 32 k (fun z => absurd z (by omega)) (fun _ => ?_)
    refine pk_eq k 0 (fun _ => k107) (fun z => ?_)
    refine ⟨pk_in k 32 (by omega), pk_in (k - 1) 32 (by omega) (pk_sub (b := 1) (by omega)), br_c (fun e => nm_r (nI_1 k) ?_) (fun _ => k107)⟩
    rw [nI_clamp (show k < 2 ^ 31 by omega), show (nI k - 1).toNatClampNeg = k - 1 from pk_cl (k - 1) (pk_sub (b := 1) (by omega))] at e
    obtain ⟨B', hz'⟩ := sf_Z_go hz (by omega) e
    exact ih (k + 1) (by omega) s b11 B' hz'
theorem sf_cut17 {post : St1 → Prop} {J : Int32 → (Nat → Int32) → (Nat → Int32) → (Nat → Int32) → (Nat → Int32) → (Nat → Int32) → (Nat → Int32) → (Nat → Int32) → (Nat → Int32) → (Nat → Int32) → (Nat → Int32) → (Nat → Int32) → (Nat → Int32) → (Nat → Int32) → (Nat → Int32) → (Nat → Int32) → (Nat → Int32) → (Nat → Int32) → (Nat → Int32) → (Nat → Int32) → (Nat → Int32) → (Nat → Int32) → (Nat → Int32) → (Nat → Int32) → Prop} {f1 f2 f4 f5 f6 f7 f8 : Int32} {a1 a2 a3 a4 a5 a6 a7 a8 a9 a11 a12 a13 a14 a15 a16 a17 a18 a19 a20 a21 a22 a23 : Nat → Int32} {n k : Nat} (hn : n ≤ 12) (hk : k < 32)
    (HJ : ∀ b10, J (nI (k + 1)) a1 a2 a3 a4 a5 a6 a7 a8 a9 b10 a11 a12 a13 a14 a15 a16 a17 a18 a19 a20 a21 a22 a23) :
    ∀ m r, r + m = n → ∀ b10, wX_cutStretches_17 post J (nI k) f1 f2 (nI n) f4 f5 f6 f7 f8 (m + 1) (nI r) a1 a2 a3 a4 a5 a6 a7 a8 a9 b10 a11 a12 a13 a14 a15 a16 a17 a18 a19 a20 a21 a22 a23 := by
  intro m
  induction m with
  | zero =>
    intro r hr b10
    exact pk_le n r (fun _ => nm_r (nI_1 k) (HJ b10)) (fun z => absurd z (by omega))
  | succ m ih =>
    intro r hr b10
    have vk : vp_in (nI k) 32 := pk_in k 32 hk
    have vr : vp_in (nI r) 13 := pk_in r 13 (by omega)
    refine pk_le n r (fun z => absurd z (by omega)) (fun _ => ⟨vr, ?_⟩)
    refine br_c (fun _ => nm_r (nI_1 r) (ih (r + 1) (by omega) _)) (fun _ => ⟨vr, ?_⟩)
    exact br_c (fun _ => nm_r (nI_1 r) (ih (r + 1) (by omega) _)) (fun _ => ⟨vk, vk, nm_e (nm_r (nI_1 r) (ih (r + 1) (by omega) _))⟩)
theorem sf_cut2 {post : St1 → Prop} {f1 f2 f4 f5 f6 f7 f8 : Int32} {a1 a2 a3 a4 a5 a6 a7 a8 a9 a11 a12 a13 a14 a15 a16 a17 a18 a19 a20 a21 a22 a23 : Nat → Int32} {n : Nat} (hn : n ≤ 12)
    (H : ∀ g6 b10 b11 S B, sf_St g6 b10 b11 S B → post (f1, f2, (nI n), f4, f5, g6, f7, f8, a1, a2, a3, a4, a5, a6, a7, a8, a9, b10, b11, a12, a13, a14, a15, a16, a17, a18, a19, a20, a21, a22, a23)) :
    ∀ m k, k + m = 32 → ∀ b10, wX_cutStretches_2 post f1 f2 (nI n) f4 f5 f6 f7 f8 (m + 1) (nI k) a1 a2 a3 a4 a5 a6 a7 a8 a9 b10 a11 a12 a13 a14 a15 a16 a17 a18 a19 a20 a21 a22 a23 := by
  intro m
  induction m with
  | zero =>
    intro k hk b10
    refine pk_le 32 k (fun _ => ⟨33, ?_⟩) (fun z => absurd z (by omega))
    exact sf_cut80 (fun g6 b11 S B hS => H g6 b10 b11 S B hS) 32 0 (by omega) 0 a11 _ (sf_Z_0 b10 a11)
  | succ m ih =>
    intro k hk b10
    refine pk_le 32 k (fun z => absurd z (by omega)) (fun _ => ⟨pk_in k 32 (by omega), nm_e ⟨n + 1, ?_⟩⟩)
    exact sf_cut17 hn (by omega) (fun b10 => ih (k + 1) (by omega) b10) n 0 (by omega) _
theorem sf_cut {post : St1 → Prop} {f1 f2 f3 f4 f5 f6 f7 f8 : Int32} {a1 a2 a3 a4 a5 a6 a7 a8 a9 a10 a11 a12 a13 a14 a15 a16 a17 a18 a19 a20 a21 a22 a23 : Nat → Int32} {n : Nat} (hn : n ≤ 12) (h3 : f3 = nI n)
    (H : ∀ g6 b10 b11 S B, sf_St g6 b10 b11 S B → post (f1, f2, f3, f4, f5, g6, f7, f8, a1, a2, a3, a4, a5, a6, a7, a8, a9, b10, b11, a12, a13, a14, a15, a16, a17, a18, a19, a20, a21, a22, a23)) : wpX_cutStretches post (f1, f2, f3, f4, f5, f6, f7, f8, a1, a2, a3, a4, a5, a6, a7, a8, a9, a10, a11, a12, a13, a14, a15, a16, a17, a18, a19, a20, a21, a22, a23) := by
  subst h3
  unfold wpX_cutStretches
  dsimp only
  exact ⟨33, sf_cut2 hn H 32 0 (by omega) a10⟩
end
section
/-! chains of tests -/
theorem sf_ch_mono {a13 a14 b13 b14 : Nat → Int32} {U : Nat → Prop} {n T T' : Nat} (hT : T ≤ T') (he : ∀ i, i < T → b13 i = a13 i ∧ b14 i = a14 i) :
    ∀ d x, sf_ch a13 a14 U n T d x → sf_ch b13 b14 U n T' d x := by
  intro d
  induction d with
  | zero => exact fun x h => h
  | succ d ih =>
    intro x h
    refine ⟨fun hu => ?_, fun hu => ih x (h.2 hu)⟩
    obtain ⟨t, ht, e, e13, hc⟩ := h.1 hu
    refine ⟨t, by omega, e, ?_, ?_⟩
    · rw [(he t ht).1]; exact e13
    · rw [(he t ht).2]; exact ih _ hc
theorem sf_ch_t {a13 a14 : Nat → Int32} {U : Nat → Prop} {n T d m t : Nat} {x y : Int32} (hm : n - (d + 1) = m) (hu : U m) (ht : t < T) (e : a13 t = nI m) (ex : a14 t = x) (hy : y = nI t) (hc : sf_ch a13 a14 U n T d x) : sf_ch a13 a14 U n T (d + 1) y := by
  subst hm ex
  exact ⟨fun _ => ⟨t, ht, hy, e, hc⟩, fun z => absurd hu z⟩
theorem sf_ch_f {a13 a14 : Nat → Int32} {U : Nat → Prop} {n T d m : Nat} {x : Int32} (hm : n - (d + 1) = m) (hu : ¬ U m) (hc : sf_ch a13 a14 U n T d x) : sf_ch a13 a14 U n T (d + 1) x := by
  subst hm
  exact ⟨fun z => absurd z hu, fun _ => hc⟩
/-! test -/
theorem sf_test2 {post : Int32 → St1 → Prop} {f1 f2 f3 f4 f5 f6 f8 : Int32} {a1 a2 a3 a4 a5 a6 a7 a8 a9 a10 a11 a12 a13 a14 a15 a16 a17 a18 a19 a20 a21 a22 a23 : Nat → Int32} {r t : Nat} {x : Int32} (ht : t < 400)
    (H1 : ∀ i, i < t → a13 i = nI r → a14 i = x → post (nI i) (f1, f2, f3, f4, f5, f6, (nI t), f8, a1, a2, a3, a4, a5, a6, a7, a8, a9, a10, a11, a12, a13, a14, a15, a16, a17, a18, a19, a20, a21, a22, a23))
    (H2 : post (nI t) (f1, f2, f3, f4, f5, f6, (nI (t + 1)), f8, a1, a2, a3, a4, a5, a6, a7, a8, a9, a10, a11, a12, (upd a13 t (nI r)), (upd a14 t x), a15, a16, a17, a18, a19, a20, a21, a22, a23)) :
    ∀ m i, i + m = t → wX_test_2 post (nI r) x f1 f2 f3 f4 f5 f6 (nI t) f8 a1 a2 a3 a4 a5 a6 a7 a8 a9 a10 a11 a12 a13 a14 a15 a16 a17 a18 a19 a20 a21 a22 a23 (m + 1) (nI i) := by
  intro m
  induction m with
  | zero =>
    intro i hi
    have vt : vp_in (nI t) 400 := pk_in t 400 ht
    have ct : (nI t).toNatClampNeg = t := nI_clamp (by omega)
    refine pk_le t i (fun _ => ?_) (fun z => absurd z (by omega))
    refine pk_eq t 400 (fun z => absurd z (by omega)) (fun _ => ?_)
    refine ⟨vt, nm_r (by rw [ct]) ⟨vt, nm_r (by rw [ct]) (nm_r (nI_1 t) ?_)⟩⟩
    rw [nI_pred]
    exact H2
  | succ m ih =>
    intro i hi
    have vi : vp_in (nI i) 400 := pk_in i 400 (by omega)
    have ci : (nI i).toNatClampNeg = i := nI_clamp (by omega)
    refine pk_le t i (fun z => absurd z (by omega)) (fun _ => ⟨vi, ?_⟩)
    refine br_c (fun e1 => ⟨vi, br_c (fun e2 => ?_) (fun _ => nm_r (nI_1 i) (ih (i + 1) (by omega)))⟩) (fun _ => nm_r (nI_1 i) (ih (i + 1) (by omega)))
    rw [ci] at e1 e2
    exact H1 i (by omega) e1 e2
theorem sf_test {post : Int32 → St1 → Prop} {f1 f2 f3 f4 f5 f6 f8 : Int32} {a1 a2 a3 a4 a5 a6 a7 a8 a9 a10 a11 a12 a13 a14 a15 a16 a17 a18 a19 a20 a21 a22 a23 : Nat → Int32} {r t : Nat} {x : Int32} (ht : t < 400)
    (H1 : ∀ i, i < t → a13 i = nI r → a14 i = x → post (nI i) (f1, f2, f3, f4, f5, f6, (nI t), f8, a1, a2, a3, a4, a5, a6, a7, a8, a9, a10, a11, a12, a13, a14, a15, a16, a17, a18, a19, a20, a21, a22, a23))
    (H2 : post (nI t) (f1, f2, f3, f4, f5, f6, (nI (t + 1)), f8, a1, a2, a3, a4, a5, a6, a7, a8, a9, a10, a11, a12, (upd a13 t (nI r)), (upd a14 t x), a15, a16, a17, a18, a19, a20, a21, a22, a23)) :
    wpX_test post (f1, f2, f3, f4, f5, f6, (nI t), f8, a1, a2, a3, a4, a5, a6, a7, a8, a9, a10, a11, a12, a13, a14, a15, a16, a17, a18, a19, a20, a21, a22, a23) (nI r) x := by
  unfold wpX_test
  dsimp only
  exact ⟨t + 1, sf_test2 ht H1 H2 t 0 (by omega)⟩
theorem sf_m1 (m : Nat) : nI m + (-1) = nI m - 1 := (Int32.sub_eq_add_neg (nI m) 1).symm
/-! buildChain -/
theorem sf_bc40 {post : Int32 → St1 → Prop} {f1 f2 f3 f4 f5 f6 f8 : Int32} {a1 a2 a3 a4 a5 a6 a7 a8 a9 a10 a11 a12 a13 a14 a15 a16 a17 a18 a19 a20 a21 a22 a23 : Nat → Int32} {n t0 : Nat} {U : Int32} {V : Nat → Prop} (hn : n ≤ 12) (ht0 : t0 + n ≤ 400) (hU : ∀ k, k < n → (sf_bt U k = true ↔ V k))
    (H : ∀ t c13 c14 x, t0 ≤ t → t ≤ t0 + n → (∀ i, i < t0 → c13 i = a13 i ∧ c14 i = a14 i) → sf_ch c13 c14 V n t n x → post x (f1, f2, f3, f4, f5, f6, (nI t), f8, a1, a2, a3, a4, a5, a6, a7, a8, a9, a10, a11, a12, c13, c14, a15, a16, a17, a18, a19, a20, a21, a22, a23)) :
    ∀ m, m ≤ n → ∀ t b13 b14 x, t0 ≤ t → t ≤ t0 + (n - m) → (∀ i, i < t0 → b13 i = a13 i ∧ b14 i = a14 i) → sf_ch b13 b14 V n t (n - m) x →
      wX_buildChain_40 post U (m + 1) x (nI m - 1) f1 f2 f3 f4 f5 f6 (nI t) f8 a1 a2 a3 a4 a5 a6 a7 a8 a9 a10 a11 a12 b13 b14 a15 a16 a17 a18 a19 a20 a21 a22 a23 := by
  intro m
  induction m with
  | zero =>
    intro hm t b13 b14 x g1 g2 g3 g4
    exact br_t (by decide) (H t b13 b14 x g1 (by omega) g3 g4)
  | succ m ih =>
    intro hm t b13 b14 x g1 g2 g3 g4
    rw [nI_pred]
    have ed : n - m = (n - (m + 1)) + 1 := by omega
    refine br_f (nI_pos (by omega)) (br_c (fun e => ?_) (fun e => ?_))
    · have hv : V m := (hU m (by omega)).mp ((sf_bit U m (by omega)).mp e)
      refine sf_test (r := m) (t := t) (by omega) ?_ ?_
      · intro i hi e1 e2
        dsimp only
        refine nm_r (sf_m1 m) (ih (by omega) t b13 b14 (nI i) g1 (by omega) g3 ?_)
        rw [ed]
        exact sf_ch_t (by omega) hv hi e1 e2 rfl g4
      · dsimp only
        refine nm_r (sf_m1 m) (ih (by omega) (t + 1) _ _ (nI t) (by omega) (by omega) ?_ ?_)
        · intro i hi
          rw [pk_un (by omega), pk_un (by omega)]
          exact g3 i hi
        · rw [ed]
          refine sf_ch_t (by omega) hv (show t < t + 1 by omega) pk_us pk_us rfl (sf_ch_mono (by omega) ?_ _ _ g4)
          intro i hi
          rw [pk_un (by omega), pk_un (by omega)]
          exact ⟨rfl, rfl⟩
    · have hv : ¬ V m := fun z => e ((sf_bit U m (by omega)).mpr ((hU m (by omega)).mpr z))
      refine nm_r (sf_m1 m) (ih (by omega) t b13 b14 x g1 (by omega) g3 ?_)
      rw [ed]
      exact sf_ch_f (by omega) hv g4
theorem sf_buildChain {post : Int32 → St1 → Prop} {f1 f2 f3 f4 f5 f6 f8 : Int32} {a1 a2 a3 a4 a5 a6 a7 a8 a9 a10 a11 a12 a13 a14 a15 a16 a17 a18 a19 a20 a21 a22 a23 : Nat → Int32} {n t0 : Nat} {set : Int32} (hn : n ≤ 12) (ht0 : t0 + n ≤ 400) (h3 : f3 = nI n)
    (H : ∀ t c13 c14 x, t0 ≤ t → t ≤ t0 + n → (∀ i, i < t0 → c13 i = a13 i ∧ c14 i = a14 i) → sf_ch c13 c14 (sf_us set f5) n t n x → post x (f1, f2, f3, f4, f5, f6, (nI t), f8, a1, a2, a3, a4, a5, a6, a7, a8, a9, a10, a11, a12, c13, c14, a15, a16, a17, a18, a19, a20, a21, a22, a23)) :
    wpX_buildChain post (f1, f2, f3, f4, f5, f6, (nI t0), f8, a1, a2, a3, a4, a5, a6, a7, a8, a9, a10, a11, a12, a13, a14, a15, a16, a17, a18, a19, a20, a21, a22, a23) set := by
  subst h3
  have k27 : ∀ U, (∀ k, k < n → (sf_bt U k = true ↔ sf_us set f5 k)) → wX_buildChain_27 post U f1 f2 (nI n) f4 f5 f6 (nI t0) f8 a1 a2 a3 a4 a5 a6 a7 a8 a9 a10 a11 a12 a13 a14 a15 a16 a17 a18 a19 a20 a21 a22 a23 := by
    intro U hU
    unfold wX_buildChain_27
    refine nm_e ⟨n + 1, sf_bc40 hn ht0 hU H n (Nat.le_refl n) t0 a13 a14 (-1) (Nat.le_refl _) (by omega) (fun i hi => ⟨rfl, rfl⟩) ?_⟩
    rw [Nat.sub_self]
    rfl
  unfold wpX_buildChain
  dsimp only
  refine nm_e (nm_e (br_c (fun e => k27 _ (fun k hk => sf_us_0 e (by omega))) (fun e => k27 _ (fun k hk => sf_us_1 e (by omega)))))
end
section
/-! the tree -/
/-- node j is done: a leaf, or a node with two children made -/
def sf_nd (a15 a16 a17 a18 a19 : Nat → Int32) (B : Nat → Nat) (S made j : Nat) : Prop :=
  ∃ lo hi, lo < hi ∧ hi ≤ S ∧ a18 j = nI lo ∧ a19 j = nI hi ∧ ((hi = lo + 1 ∧ a15 j = -1 ∧ a16 j = nI lo) ∨
    (∃ l, l + 1 < made ∧ lo + 2 ≤ hi ∧ a15 j = nI (B ((lo + hi) / 2)) ∧ a16 j = nI l ∧ a17 j = nI (l + 1) ∧ a18 l = nI lo ∧ a19 l = nI ((lo + hi) / 2) ∧ a18 (l + 1) = nI ((lo + hi) / 2) ∧ a19 (l + 1) = nI hi))
theorem sf_nd_tr {a15 a16 a17 a18 a19 : Nat → Int32} {B : Nat → Nat} {S made : Nat} (hS : S ≤ 32) (hm : made ≤ 64) (h : ∀ j, j < made → sf_nd a15 a16 a17 a18 a19 B S made j) :
    ∀ d j lo hi, j < made → a18 j = nI lo → a19 j = nI hi → lo < hi → hi ≤ S → hi - lo ≤ 2 ^ d → sf_tr a15 a16 a17 B d j lo hi := by
  intro d
  induction d with
  | zero =>
    intro j lo hi hj e1 e2 g1 g2 g3
    obtain ⟨lo', hi', q1, q2, q3, q4, q5⟩ := h j hj
    have el : lo' = lo := (nI_eq (by omega) (by omega)).mp (q3.symm.trans e1)
    have eh : hi' = hi := (nI_eq (by omega) (by omega)).mp (q4.symm.trans e2)
    subst el eh
    rw [Nat.pow_zero] at g3
    rcases q5 with ⟨w1, w2, w3⟩ | ⟨l, w1, w2, _⟩
    · exact ⟨by omega, w1, w2, w3⟩
    · exact absurd w2 (by omega)
  | succ d ih =>
    intro j lo hi hj e1 e2 g1 g2 g3
    obtain ⟨lo', hi', q1, q2, q3, q4, q5⟩ := h j hj
    have el : lo' = lo := (nI_eq (by omega) (by omega)).mp (q3.symm.trans e1)
    have eh : hi' = hi := (nI_eq (by omega) (by omega)).mp (q4.symm.trans e2)
    subst el eh
    rw [Nat.pow_succ] at g3
    refine ⟨by omega, ?_⟩
    rcases q5 with ⟨w1, w2, w3⟩ | ⟨l, w1, w2, w3, w4, w5, w6, w7, w8, w9⟩
    · exact Or.inl ⟨w1, w2, w3⟩
    · refine Or.inr ⟨(lo' + hi') / 2, l, l + 1, by omega, by omega, w3, w4, w5, ?_, ?_⟩
      · exact ih l lo' ((lo' + hi') / 2) (by omega) w6 w7 (by omega) (by omega) (by omega)
      · exact ih (l + 1) ((lo' + hi') / 2) hi' (by omega) w8 w9 (by omega) (by omega) (by omega)
/-- the nodes that the pending ones will need in all -/
def sf_T (lo hi : Nat → Nat) : Nat → Nat
  | 0 => 0
  | m + 1 => sf_T lo hi m + (2 * (hi m - lo m) - 1)
theorem sf_T_congr {lo hi lo' hi' : Nat → Nat} : ∀ m, (∀ j, j < m → lo' j = lo j ∧ hi' j = hi j) → sf_T lo' hi' m = sf_T lo hi m := by
  intro m
  induction m with
  | zero => exact fun _ => rfl
  | succ m ih =>
    intro h
    show sf_T lo' hi' m + (2 * (hi' m - lo' m) - 1) = sf_T lo hi m + (2 * (hi m - lo m) - 1)
    rw [ih (fun j hj => h j (by omega)), (h m (by omega)).1, (h m (by omega)).2]
theorem sf_T_ge {lo hi : Nat → Nat} {a : Nat} : ∀ m, a ≤ m → (∀ j, j < m → lo j < hi j) → sf_T lo hi a + (m - a) ≤ sf_T lo hi m := by
  intro m
  induction m with
  | zero => intro ha _; rw [show a = 0 by omega]; exact Nat.le_refl _
  | succ m ih =>
    intro ha h
    by_cases e : a = m + 1
    · subst e; omega
    · have q := ih (by omega) (fun j hj => h j (by omega))
      have w := h m (by omega)
      show sf_T lo hi a + (m + 1 - a) ≤ sf_T lo hi m + (2 * (hi m - lo m) - 1)
      omega
/-- behind the nodes below 'node': 'made' nodes made -/
def sf_Y (a15 a16 a17 a18 a19 : Nat → Int32) (B : Nat → Nat) (S made node : Nat) (lo hi : Nat → Nat) : Prop :=
  node ≤ made ∧ lo 0 = 0 ∧ hi 0 = S ∧ 1 ≤ made ∧ (∀ j, j < made → a18 j = nI (lo j) ∧ a19 j = nI (hi j) ∧ lo j < hi j ∧ hi j ≤ S) ∧
  (∀ j, j < node → sf_nd a15 a16 a17 a18 a19 B S made j) ∧ sf_T lo hi made + node + 1 = 2 * S + sf_T lo hi node
theorem sf_Y_made {a15 a16 a17 a18 a19 : Nat → Int32} {B : Nat → Nat} {S made node : Nat} {lo hi : Nat → Nat} (h : sf_Y a15 a16 a17 a18 a19 B S made node lo hi) (hS : S ≤ 32) : made ≤ 63 := by
  obtain ⟨h1, h2, h3, h4, h5, h6, h7⟩ := h
  have := sf_T_ge (lo := lo) (hi := hi) (a := node) made h1 (fun j hj => (h5 j hj).2.2.1)
  omega
theorem sf_Y_room {a15 a16 a17 a18 a19 : Nat → Int32} {B : Nat → Nat} {S made node : Nat} {lo hi : Nat → Nat} (h : sf_Y a15 a16 a17 a18 a19 B S made node lo hi) (hS : S ≤ 32) (hn : node < made) (hw : lo node + 2 ≤ hi node) : made ≤ 61 := by
  obtain ⟨h1, h2, h3, h4, h5, h6, h7⟩ := h
  have q := sf_T_ge (lo := lo) (hi := hi) (a := node + 1) made (by omega) (fun j hj => (h5 j hj).2.2.1)
  have w : sf_T lo hi (node + 1) = sf_T lo hi node + (2 * (hi node - lo node) - 1) := rfl
  omega
theorem sf_Y_end {a15 a16 a17 a18 a19 : Nat → Int32} {B : Nat → Nat} {S made : Nat} {lo hi : Nat → Nat} (h : sf_Y a15 a16 a17 a18 a19 B S made made lo hi) (hS : S ≤ 32) : sf_tr a15 a16 a17 B 5 0 0 S := by
  have hm := sf_Y_made h hS
  obtain ⟨h1, h2, h3, h4, h5, h6, h7⟩ := h
  have q := h5 0 (by omega)
  rw [h2, h3] at q
  exact sf_nd_tr hS (by omega) h6 5 0 0 S (by omega) q.1 q.2.1 q.2.2.1 q.2.2.2 (by omega)
theorem sf_Y_leaf {a15 a16 a17 a18 a19 : Nat → Int32} {B : Nat → Nat} {S made node : Nat} {lo hi : Nat → Nat} (h : sf_Y a15 a16 a17 a18 a19 B S made node lo hi) (hn : node < made) (hw : hi node < lo node + 2) :
    sf_Y (upd a15 node (-1)) (upd a16 node (nI (lo node))) a17 a18 a19 B S made (node + 1) lo hi := by
  obtain ⟨h1, h2, h3, h4, h5, h6, h7⟩ := h
  obtain ⟨q1, q2, q3, q4⟩ := h5 node hn
  refine ⟨by omega, h2, h3, h4, h5, ?_, ?_⟩
  · intro j hj
    by_cases e : j = node
    · subst e
      exact ⟨lo j, hi j, q3, q4, q1, q2, Or.inl ⟨by omega, pk_us, pk_us⟩⟩
    · obtain ⟨l, k, w1, w2, w3, w4, w5⟩ := h6 j (by omega)
      refine ⟨l, k, w1, w2, w3, w4, ?_⟩
      rw [pk_un e, pk_un e]
      exact w5
  · have w : sf_T lo hi (node + 1) = sf_T lo hi node + (2 * (hi node - lo node) - 1) := rfl
    omega
theorem sf_Y_node {a15 a16 a17 a18 a19 : Nat → Int32} {B : Nat → Nat} {S made node mid : Nat} {lo hi : Nat → Nat} (h : sf_Y a15 a16 a17 a18 a19 B S made node lo hi) (hn : node < made) (hw : lo node + 2 ≤ hi node) (hm : mid = (lo node + hi node) / 2) :
    ∃ lo' hi', sf_Y (upd a15 node (nI (B mid))) (upd a16 node (nI made)) (upd a17 node (nI (made + 1))) (upd (upd a18 made (nI (lo node))) (made + 1) (nI mid)) (upd (upd a19 made (nI mid)) (made + 1) (nI (hi node))) B S (made + 2) (node + 1) lo' hi' := by
  obtain ⟨h1, h2, h3, h4, h5, h6, h7⟩ := h
  obtain ⟨q1, q2, q3, q4⟩ := h5 node hn
  have el : ∀ j, j < made → (fun j => if j < made then lo j else if j = made then lo node else mid) j = lo j := fun j hj => if_pos hj
  have eh : ∀ j, j < made → (fun j => if j < made then hi j else if j = made then mid else hi node) j = hi j := fun j hj => if_pos hj
  have el0 : (fun j => if j < made then lo j else if j = made then lo node else mid) made = lo node := by
    show (if made < made then lo made else if made = made then lo node else mid) = lo node
    rw [if_neg (by omega), if_pos rfl]
  have eh0 : (fun j => if j < made then hi j else if j = made then mid else hi node) made = mid := by
    show (if made < made then hi made else if made = made then mid else hi node) = mid
    rw [if_neg (by omega), if_pos rfl]
  have el1 : (fun j => if j < made then lo j else if j = made then lo node else mid) (made + 1) = mid := by
    show (if made + 1 < made then lo (made + 1) else if made + 1 = made then lo node else mid) = mid
    rw [if_neg (by omega), if_neg (by omega)]
  have eh1 : (fun j => if j < made then hi j else if j = made then mid else hi node) (made + 1) = hi node := by
    show (if made + 1 < made then hi (made + 1) else if made + 1 = made then mid else hi node) = hi node
    rw [if_neg (by omega), if_neg (by omega)]
  revert el eh el0 eh0 el1 eh1
  generalize (fun j => if j < made then lo j else if j = made then lo node else mid) = lo'
  generalize (fun j => if j < made then hi j else if j = made then mid else hi node) = hi'
  intro el eh el0 eh0 el1 eh1
  have u18 : ∀ j, j < made → upd (upd a18 made (nI (lo node))) (made + 1) (nI mid) j = a18 j := fun j hj => by rw [pk_un (by omega), pk_un (by omega)]
  have u19 : ∀ j, j < made → upd (upd a19 made (nI mid)) (made + 1) (nI (hi node)) j = a19 j := fun j hj => by rw [pk_un (by omega), pk_un (by omega)]
  have v18 : upd (upd a18 made (nI (lo node))) (made + 1) (nI mid) made = nI (lo node) := by rw [pk_un (by omega), pk_us]
  have v19 : upd (upd a19 made (nI mid)) (made + 1) (nI (hi node)) made = nI mid := by rw [pk_un (by omega), pk_us]
  have w18 : upd (upd a18 made (nI (lo node))) (made + 1) (nI mid) (made + 1) = nI mid := pk_us
  have w19 : upd (upd a19 made (nI mid)) (made + 1) (nI (hi node)) (made + 1) = nI (hi node) := pk_us
  refine ⟨lo', hi', by omega, ?_, ?_, by omega, ?_, ?_, ?_⟩
  · rw [el 0 (by omega)]; exact h2
  · rw [eh 0 (by omega)]; exact h3
  · intro j hj
    by_cases c : j < made
    · rw [u18 j c, u19 j c, el j c, eh j c]; exact h5 j c
    · by_cases c1 : j = made
      · rw [c1, v18, v19, el0, eh0]
        exact ⟨rfl, rfl, by omega, by omega⟩
      · rw [show j = made + 1 by omega, w18, w19, el1, eh1]
        exact ⟨rfl, rfl, by omega, by omega⟩
  · intro j hj
    by_cases e : j = node
    · subst e
      refine ⟨lo j, hi j, q3, q4, ?_, ?_, Or.inr ⟨made, by omega, hw, ?_, pk_us, pk_us, v18, ?_, ?_, w19⟩⟩
      · rw [u18 j hn]; exact q1
      · rw [u19 j hn]; exact q2
      · rw [pk_us, hm]
      · rw [v19, hm]
      · rw [w18, hm]
    · obtain ⟨l, k, w1, w2, w3, w4, w5⟩ := h6 j (by omega)
      refine ⟨l, k, w1, w2, ?_, ?_, ?_⟩
      · rw [u18 j (by omega)]; exact w3
      · rw [u19 j (by omega)]; exact w4
      · rw [pk_un e, pk_un e, pk_un e]
        rcases w5 with w5 | ⟨c, x1, x2, x3, x4, x5, x6, x7, x8, x9⟩
        · exact Or.inl w5
        · refine Or.inr ⟨c, by omega, x2, x3, x4, x5, ?_, ?_, ?_, ?_⟩
          · rw [u18 c (by omega)]; exact x6
          · rw [u19 c (by omega)]; exact x7
          · rw [u18 (c + 1) (by omega)]; exact x8
          · rw [u19 (c + 1) (by omega)]; exact x9
  · have t1 : sf_T lo' hi' (made + 2) = sf_T lo' hi' made + (2 * (hi' made - lo' made) - 1) + (2 * (hi' (made + 1) - lo' (made + 1)) - 1) := rfl
    have t2 : sf_T lo' hi' (node + 1) = sf_T lo' hi' node + (2 * (hi' node - lo' node) - 1) := rfl
    rw [el0, eh0, el1, eh1, sf_T_congr made (fun j hj => ⟨el j hj, eh j hj⟩)] at t1
    rw [el node hn, eh node hn, sf_T_congr node (fun j hj => ⟨el j (by omega), eh j (by omega)⟩)] at t2
    omega
theorem sf_bt21 {post : St1 → Prop} {f1 f2 f3 f4 f5 f6 f7 f8 : Int32} {a1 a2 a3 a4 a5 a6 a7 a8 a9 a10 a11 a12 a13 a14 a20 a21 a22 a23 : Nat → Int32} {S : Nat} {B : Nat → Nat} (hS : S ≤ 32) (hB : ∀ s, s ≤ S → a11 s = nI (B s))
    (H : ∀ b15 b16 b17 b18 b19, sf_tr b15 b16 b17 B 5 0 0 S → post (f1, f2, f3, f4, f5, f6, f7, f8, a1, a2, a3, a4, a5, a6, a7, a8, a9, a10, a11, a12, a13, a14, b15, b16, b17, b18, b19, a20, a21, a22, a23)) :
    ∀ m node, node + m = 63 → ∀ made b15 b16 b17 b18 b19 lo hi, sf_Y b15 b16 b17 b18 b19 B S made node lo hi →
      wX_buildTree_21 post f1 f2 f3 f4 f5 f6 f7 f8 (m + 1) (nI made) (nI node) a1 a2 a3 a4 a5 a6 a7 a8 a9 a10 a11 a12 a13 a14 b15 b16 b17 b18 b19 a20 a21 a22 a23 := by
  intro m
  induction m with
  | zero =>
    intro node hm made b15 b16 b17 b18 b19 lo hi hY
    have q := sf_Y_made hY hS
    have q2 := hY.1
    refine pk_le 63 node (fun _ => H _ _ _ _ _ ?_) (fun z => absurd z (by omega))
    have e : made = node := by omega
    subst e
    exact sf_Y_end hY hS
  | succ m ih =>
    intro node hm made b15 b16 b17 b18 b19 lo hi hY
    have q := sf_Y_made hY hS
    have q2 := hY.1
    refine pk_le 63 node (fun z => absurd z (by omega)) (fun _ => ?_)
    refine pk_le made node (fun z => H _ _ _ _ _ ?_) (fun hn => ?_)
    · have e : made = node := by omega
      subst e
      exact sf_Y_end hY hS
    · have vn : vp_in (nI node) 64 := pk_in node 64 (by omega)
      have cn : (nI node).toNatClampNeg = node := nI_clamp (by omega)
      obtain ⟨e18, e19, g1, g2⟩ := hY.2.2.2.2.1 node hn
      have k61 : hi node < lo node + 2 → wX_buildTree_61 post (wX_buildTree_21 post f1 f2 f3 f4 f5 f6 f7 f8 (m + 1)) (nI made) (nI node) (nI (lo node)) f1 f2 f3 f4 f5 f6 f7 f8 a1 a2 a3 a4 a5 a6 a7 a8 a9 a10 a11 a12 a13 a14 b15 b16 b17 b18 b19 a20 a21 a22 a23 := by
        intro hw
        unfold wX_buildTree_61
        exact ⟨vn, nm_r (by rw [cn]) ⟨vn, nm_r (by rw [cn]) (nm_r (nI_1 node) (ih (node + 1) (by omega) made _ _ _ _ _ lo hi (sf_Y_leaf hY hn hw)))⟩⟩
      refine ⟨vn, nm_r (show b18 (nI node).toNatClampNeg = nI (lo node) by rw [cn, e18]) ⟨vn, nm_r (show b19 (nI node).toNatClampNeg = nI (hi node) by rw [cn, e19]) ?_⟩⟩
      refine pk_lt (hi node - lo node) 2 (fun z => k61 (by omega)) (fun z => ?_) (pk_sub (by omega))
      have hw : lo node + 2 ≤ hi node := by omega
      have q3 := sf_Y_room hY hS hn hw
      refine pk_le made 62 (fun _ => ?_) (fun z => absurd z (by omega))
      have em : (nI (lo node) + nI (hi node)) >>> ((1 : Int32) &&& 31) = nI ((lo node + hi node) / 2) := by
        rw [nI_add]
        exact pk_shrN (by omega) _ 1 (by decide)
      obtain ⟨lo', hi', hY'⟩ := sf_Y_node hY hn hw rfl
      have vm : vp_in (nI made) 64 := pk_in made 64 (by omega)
      have vm1 : vp_in (nI made + 1) 64 := pk_in (made + 1) 64 (by omega) (nI_1 made)
      have cm : (nI made).toNatClampNeg = made := nI_clamp (by omega)
      have cm1 : (nI made + 1).toNatClampNeg = made + 1 := pk_cl (made + 1) (nI_1 made)
      have cd : (nI ((lo node + hi node) / 2)).toNatClampNeg = (lo node + hi node) / 2 := nI_clamp (by omega)
      refine nm_r em ⟨pk_in ((lo node + hi node) / 2) 33 (by omega), vn, nm_r (by rw [cn, cd, hB _ (by omega)]) ?_⟩
      refine ⟨vn, nm_r (by rw [cn]) ⟨vm, nm_r (by rw [cm]) ⟨vm, nm_r (by rw [cm]) ?_⟩⟩⟩
      refine ⟨vn, nm_r (by rw [cn, nI_1]) ⟨vm1, nm_r (by rw [cm1]) ⟨vm1, nm_r (by rw [cm1]) ?_⟩⟩⟩
      refine nm_r (show nI made + 2 = nI (made + 2) from nI_add made 2) (nm_r (nI_1 node) ?_)
      exact ih (node + 1) (by omega) (made + 2) _ _ _ _ _ lo' hi' hY'
theorem sf_buildTree {post : St1 → Prop} {f1 f2 f3 f4 f5 f6 f7 f8 : Int32} {a1 a2 a3 a4 a5 a6 a7 a8 a9 a10 a11 a12 a13 a14 a15 a16 a17 a18 a19 a20 a21 a22 a23 : Nat → Int32} {S : Nat} {B : Nat → Nat} (h6 : f6 = nI S) (h1 : 1 ≤ S) (hS : S ≤ 32) (hB : ∀ s, s ≤ S → a11 s = nI (B s))
    (H : ∀ b15 b16 b17 b18 b19, sf_tr b15 b16 b17 B 5 0 0 S → post (f1, f2, f3, f4, f5, f6, f7, f8, a1, a2, a3, a4, a5, a6, a7, a8, a9, a10, a11, a12, a13, a14, b15, b16, b17, b18, b19, a20, a21, a22, a23)) : wpX_buildTree post (f1, f2, f3, f4, f5, f6, f7, f8, a1, a2, a3, a4, a5, a6, a7, a8, a9, a10, a11, a12, a13, a14, a15, a16, a17, a18, a19, a20, a21, a22, a23) := by
  subst h6
  unfold wpX_buildTree
  dsimp only
  refine nm_e (nm_e ⟨64, sf_bt21 hS hB H 63 0 (by omega) 1 a15 a16 a17 _ _ (fun _ => 0) (fun _ => S) ?_⟩)
  refine ⟨by omega, rfl, rfl, by omega, ?_, fun j hj => absurd hj (by omega), ?_⟩
  · intro j hj
    rw [show j = 0 by omega]
    exact ⟨pk_us, pk_us, show 0 < S by omega, Nat.le_refl S⟩
  · show (0 + (2 * (S - 0) - 1)) + 0 + 1 = 2 * S + 0
    omega
end
section
/-! compile -/
theorem sf_c103 {post : St1 → Prop} {f1 f2 f3 f4 f5 f6 f8 : Int32} {a1 a2 a3 a4 a5 a6 a7 a8 a9 a10 a11 a15 a16 a17 a18 a19 a20 a21 a22 a23 : Nat → Int32} {n S : Nat} {B : Nat → Nat} (hn : n ≤ 12) (h3 : f3 = nI n) (hS : sf_St f6 a10 a11 S B)
    (H : ∀ g7 b12 b13 b14 b15 b16 b17 b18 b19, (∀ s, s < S → sf_ch b13 b14 (sf_us (a10 (B s)) f5) n 400 n (b12 s)) → sf_tr b15 b16 b17 B 5 0 0 S →
      post (f1, f2, f3, f4, f5, f6, g7, f8, a1, a2, a3, a4, a5, a6, a7, a8, a9, a10, a11, b12, b13, b14, b15, b16, b17, b18, b19, a20, a21, a22, a23)) :
    ∀ m s, s + m = S → ∀ t b12 b13 b14, t ≤ 12 * s → (∀ i, i < s → sf_ch b13 b14 (sf_us (a10 (B i)) f5) n t n (b12 i)) →
      wX_compile_103 post (m + 1) (nI s) f1 f2 f3 f4 f5 f6 (nI t) f8 a1 a2 a3 a4 a5 a6 a7 a8 a9 a10 a11 b12 b13 b14 a15 a16 a17 a18 a19 a20 a21 a22 a23 := by
  obtain ⟨s1, s2, s3, s4, s5, s6, s7, s8, s9⟩ := hS
  subst s1
  intro m
  induction m with
  | zero =>
    intro s hs t b12 b13 b14 ht hc
    refine pk_le S s (fun _ => ?_) (fun z => absurd z (by omega))
    refine sf_buildTree rfl s2 s3 s6 ?_
    intro b15 b16 b17 b18 b19 htr
    exact H _ _ _ _ _ _ _ _ _ (fun i hi => sf_ch_mono (by omega) (fun _ _ => ⟨rfl, rfl⟩) _ _ (hc i (by omega))) htr
  | succ m ih =>
    intro s hs t b12 b13 b14 ht hc
    have hb1 := s8 s (by omega)
    have hb2 := s7 (s + 1) (by omega)
    have e1 : a11 (nI s).toNatClampNeg = nI (B s) := by rw [nI_clamp (by omega)]; exact s6 s (by omega)
    refine pk_le S s (fun z => absurd z (by omega)) (fun _ => ⟨pk_in s 33 (by omega), pk_in (B s) 32 (by omega) e1, ?_⟩)
    have e2 : a10 (a11 (nI s).toNatClampNeg).toNatClampNeg = a10 (B s) := by rw [e1, nI_clamp (by omega)]
    rw [e2]
    refine sf_buildChain hn (by omega) h3 ?_
    intro t' c13 c14 x g1 g2 g3 g4
    dsimp only
    refine ⟨pk_in s 32 (by omega), nm_r (show upd b12 (nI s).toNatClampNeg x = upd b12 s x by rw [nI_clamp (by omega)]) (nm_r (nI_1 s) ?_)⟩
    refine ih (s + 1) (by omega) t' _ c13 c14 (by omega) ?_
    intro i hi
    by_cases e : i = s
    · subst e
      rw [pk_us]
      exact g4
    · rw [pk_un e]
      exact sf_ch_mono g1 g3 _ _ (hc i (by omega))
theorem sf_c20 {post : St1 → Prop} {f1 f2 f4 f6 f7 f8 : Int32} {a1 a2 a3 a4 a5 a6 a10 a11 a12 a13 a14 a15 a16 a17 a18 a19 a20 a21 a22 a23 : Nat → Int32} {n : Nat} (hn : n ≤ 12)
    (H : ∀ g5 g6 g7 b7 b8 b9 b10 b11 b12 b13 b14 b15 b16 b17 b18 b19, sf_C n g5 g6 a3 b10 b11 b12 b13 b14 b15 b16 b17 →
      post (f1, f2, (nI n), f4, g5, g6, g7, f8, a1, a2, a3, a4, a5, a6, b7, b8, b9, b10, b11, b12, b13, b14, b15, b16, b17, b18, b19, a20, a21, a22, a23)) :
    ∀ m r, r + m = n → ∀ g5 b7 b8 b9, (∀ i, i < 32 → (sf_bt g5 i = true ↔ i < r ∧ sf_pl a3 i)) →
      wX_compile_20 post (m + 1) (nI r) f1 f2 (nI n) f4 g5 f6 f7 f8 a1 a2 a3 a4 a5 a6 b7 b8 b9 a10 a11 a12 a13 a14 a15 a16 a17 a18 a19 a20 a21 a22 a23 := by
  intro m
  induction m with
  | zero =>
    intro r hr g5 b7 b8 b9 hp
    have e : r = n := by omega
    subst e
    refine pk_le r r (fun _ => ?_) (fun z => absurd z (by omega))
    refine sf_cut hn rfl ?_
    intro g6 b10 b11 S B hS
    dsimp only
    refine ⟨S + 1, sf_c103 hn rfl hS ?_ S 0 (by omega) 0 a12 a13 a14 (by omega) (fun i hi => absurd hi (by omega))⟩
    intro g7 b12 b13 b14 b15 b16 b17 b18 b19 hch htr
    exact H g5 g6 g7 b7 b8 b9 b10 b11 b12 b13 b14 b15 b16 b17 b18 b19 ⟨hp, S, B, hS, hch, htr⟩
  | succ m ih =>
    intro r hr g5 b7 b8 b9 hp
    refine pk_le n r (fun z => absurd z (by omega)) (fun _ => ?_)
    refine sf_normalise (c := 2 * r) (sf_2i r) (by omega) ?_
    intro c7 c8 c9
    dsimp only
    refine sf_normalise (c := 2 * r + 1) (sf_2i1 r) (by omega) ?_
    intro d7 d8 d9
    dsimp only
    have e1 : (2 * nI r).toNatClampNeg = 2 * r := pk_cl (2 * r) (sf_2i r)
    have e2 : (2 * nI r + 1).toNatClampNeg = 2 * r + 1 := pk_cl (2 * r + 1) (sf_2i1 r)
    have skip : ¬ sf_pl a3 r → ∀ i, i < 32 → (sf_bt g5 i = true ↔ i < r + 1 ∧ sf_pl a3 i) := by
      intro hq i hi
      rw [hp i hi]
      constructor
      · exact fun h => ⟨by omega, h.2⟩
      · intro h
        refine ⟨?_, h.2⟩
        by_cases e : i = r
        · subst e; exact absurd h.2 hq
        · omega
    refine ⟨pk_in (2 * r) 26 (by omega) (sf_2i r), br_c (fun g1 => ⟨pk_in (2 * r + 1) 26 (by omega) (sf_2i1 r), br_c (fun g2 => ?_) (fun g2 => ?_)⟩) (fun g1 => ?_)⟩
    · rw [e1] at g1
      rw [e2] at g2
      refine nm_e (nm_r (nI_1 r) (ih (r + 1) (by omega) _ d7 d8 d9 ?_))
      intro i hi
      rw [sf_b_or, sf_b_sh1 r (by omega) hi, Bool.or_eq_true, decide_eq_true_eq, hp i hi]
      constructor
      · rintro (h | h)
        · exact ⟨by omega, h.2⟩
        · subst h; exact ⟨by omega, g1, g2⟩
      · intro h
        by_cases e : i = r
        · exact Or.inr e
        · exact Or.inl ⟨by omega, h.2⟩
    · rw [e2] at g2
      exact nm_r (nI_1 r) (ih (r + 1) (by omega) g5 d7 d8 d9 (skip (fun h => g2 h.2)))
    · rw [e1] at g1
      exact nm_r (nI_1 r) (ih (r + 1) (by omega) g5 d7 d8 d9 (skip (fun h => g1 h.1)))
theorem sf_compile {post : St1 → Prop} {u : St1} (h : sf_Inv u) (H : ∀ u', sf_Cp u' → post u') : wpX_compile post u := by
  obtain ⟨f1, f2, f3, f4, f5, f6, f7, f8, a1, a2, a3, a4, a5, a6, a7, a8, a9, a10, a11, a12, a13, a14, a15, a16, a17, a18, a19, a20, a21, a22, a23⟩ := u
  obtain ⟨n, h0, hc⟩ := h
  have h0' := h0
  obtain ⟨h1, h2, h3, h4, h5, h6⟩ := h0'
  unfold wpX_compile
  dsimp only
  refine br_c (fun _ => ?_) (fun e => H _ ⟨n, h0, e, Or.resolve_left hc e⟩)
  subst h2
  refine ⟨n + 1, sf_c20 h1 ?_ n 0 (by omega) 0 a7 a8 a9 ?_⟩
  · intro g5 g6 g7 b7 b8 b9 b10 b11 b12 b13 b14 b15 b16 b17 b18 b19 hC
    exact H _ ⟨n, h0, by decide, hC⟩
  · intro i hi
    rw [sf_b_0]
    exact ⟨fun z => absurd z (by decide), fun z => absurd z.1 (by omega)⟩
/-- what is compiled stays -/
theorem sf_compile1 {post : St1 → Prop} {u : St1} (h : sf_Cp u) (H : post u) : wpX_compile post u := by
  obtain ⟨f1, f2, f3, f4, f5, f6, f7, f8, a1, a2, a3, a4, a5, a6, a7, a8, a9, a10, a11, a12, a13, a14, a15, a16, a17, a18, a19, a20, a21, a22, a23⟩ := u
  obtain ⟨n, h0, h1, hc⟩ := h
  unfold wpX_compile
  dsimp only
  exact br_f h1 H
end
section
/-! meets, holds, follow, verdict: they only read -/
def sf_i (b : Bool) : Int32 := match b with
  | true => 1
  | false => 0
theorem sf_meets {f1 f2 f3 f4 f5 f6 f7 f8 : Int32} {a1 a2 a3 a4 a5 a6 a7 a8 a9 a10 a11 a12 a13 a14 a15 a16 a17 a18 a19 a20 a21 a22 a23 : Nat → Int32} {c : Nat} (hc : c < 24) (h3 : sf_W a3) :
    ∃ b : Bool, (a3 c &&& 7 = 0 → b = true) ∧ ∀ (post : Int32 → Prop) (x : Int32), x = nI c → post (sf_i b) → wpX_meets post (f1, f2, f3, f4, f5, f6, f7, f8, a1, a2, a3, a4, a5, a6, a7, a8, a9, a10, a11, a12, a13, a14, a15, a16, a17, a18, a19, a20, a21, a22, a23) x := by
  obtain ⟨w, hw, ew⟩ := h3 c (by omega)
  have v24 : vp_in (nI c) 24 := pk_in c 24 hc
  have v26 : vp_in (nI c) 26 := pk_in c 26 (by omega)
  have cc : (nI c).toNatClampNeg = c := nI_clamp (by omega)
  have vi : vp_in (a3 c >>> ((3 : Int32) &&& 31)) 2 := pk_in (w / 8) 2 (by omega) (by rw [ew]; exact pk_shrN (by omega) _ 3 (by decide))
  have k60 : ∀ z0 : Int32, ∃ b : Bool, ∀ post : Int32 → Prop, post (sf_i b) → wX_meets_60 post (nI c) z0 f1 f2 f3 f4 f5 f6 f7 f8 a1 a2 a3 a4 a5 a6 a7 a8 a9 a10 a11 a12 a13 a14 a15 a16 a17 a18 a19 a20 a21 a22 a23 := by
    intro z0
    by_cases e : z0 = a9 c
    · exact ⟨false, fun post hp => by unfold wX_meets_60; rw [cc]; exact ⟨v24, br_t e hp⟩⟩
    · exact ⟨true, fun post hp => by unfold wX_meets_60; rw [cc]; exact ⟨v24, br_f e hp⟩⟩
  by_cases h0 : a3 c &&& 7 = 0
  · refine ⟨true, fun _ => rfl, fun post x hx hp => ?_⟩
    subst hx
    unfold wpX_meets
    dsimp only
    rw [cc]
    exact ⟨v26, vi, v26, nm_e ⟨v26, br_t h0 hp⟩⟩
  · by_cases g1 : (a20 (a3 c >>> ((3 : Int32) &&& 31)).toNatClampNeg &&& a4 c) < a7 c
    · obtain ⟨b, hb⟩ := k60 0
      refine ⟨b, fun z => absurd z h0, fun post x hx hp => ?_⟩
      subst hx
      unfold wpX_meets
      dsimp only
      rw [cc]
      exact ⟨v26, vi, v26, nm_e ⟨v26, br_f h0 ⟨v24, br_t g1 (hb post hp)⟩⟩⟩
    · by_cases g2 : a8 c < (a20 (a3 c >>> ((3 : Int32) &&& 31)).toNatClampNeg &&& a4 c)
      · obtain ⟨b, hb⟩ := k60 0
        refine ⟨b, fun z => absurd z h0, fun post x hx hp => ?_⟩
        subst hx
        unfold wpX_meets
        dsimp only
        rw [cc]
        exact ⟨v26, vi, v26, nm_e ⟨v26, br_f h0 ⟨v24, br_f g1 ⟨v24, br_t g2 (hb post hp)⟩⟩⟩⟩
      · obtain ⟨b, hb⟩ := k60 1
        refine ⟨b, fun z => absurd z h0, fun post x hx hp => ?_⟩
        subst hx
        unfold wpX_meets
        dsimp only
        rw [cc]
        exact ⟨v26, vi, v26, nm_e ⟨v26, br_f h0 ⟨v24, br_f g1 ⟨v24, br_f g2 (hb post hp)⟩⟩⟩⟩
theorem sf_holds {f1 f2 f3 f4 f5 f6 f7 f8 : Int32} {a1 a2 a3 a4 a5 a6 a7 a8 a9 a10 a11 a12 a13 a14 a15 a16 a17 a18 a19 a20 a21 a22 a23 : Nat → Int32} {r : Nat} (hr : r < 12) (h3 : sf_W a3) :
    ∃ b : Bool, (sf_pl a3 r → b = true) ∧ ∀ (post : Int32 → Prop) (x : Int32), x = nI r → post (sf_i b) → wpX_holds post (f1, f2, f3, f4, f5, f6, f7, f8, a1, a2, a3, a4, a5, a6, a7, a8, a9, a10, a11, a12, a13, a14, a15, a16, a17, a18, a19, a20, a21, a22, a23) x := by
  obtain ⟨b1, p1, w1⟩ := sf_meets (f1 := f1) (f2 := f2) (f3 := f3) (f4 := f4) (f5 := f5) (f6 := f6) (f7 := f7) (f8 := f8) (a1 := a1) (a2 := a2) (a4 := a4) (a5 := a5) (a6 := a6) (a7 := a7) (a8 := a8) (a9 := a9) (a10 := a10) (a11 := a11) (a12 := a12) (a13 := a13) (a14 := a14) (a15 := a15) (a16 := a16) (a17 := a17) (a18 := a18) (a19 := a19) (a20 := a20) (a21 := a21) (a22 := a22) (a23 := a23) (c := 2 * r) (by omega) h3
  obtain ⟨b2, p2, w2⟩ := sf_meets (f1 := f1) (f2 := f2) (f3 := f3) (f4 := f4) (f5 := f5) (f6 := f6) (f7 := f7) (f8 := f8) (a1 := a1) (a2 := a2) (a4 := a4) (a5 := a5) (a6 := a6) (a7 := a7) (a8 := a8) (a9 := a9) (a10 := a10) (a11 := a11) (a12 := a12) (a13 := a13) (a14 := a14) (a15 := a15) (a16 := a16) (a17 := a17) (a18 := a18) (a19 := a19) (a20 := a20) (a21 := a21) (a22 := a22) (a23 := a23) (c := 2 * r + 1) (by omega) h3
  refine ⟨b1 && b2, fun h => by rw [p1 h.1, p2 h.2]; rfl, fun post x hx hp => ?_⟩
  subst hx
  unfold wpX_holds
  dsimp only
  refine w1 _ _ (sf_2i r) ?_
  cases b1 with
  | false => exact br_t rfl hp
  | true =>
    refine br_f sf_not1 (w2 _ _ (sf_2i1 r) ?_)
    cases b2 with
    | false => exact br_t rfl hp
    | true => exact br_f sf_not1 hp
theorem sf_choice {α : Type} (d : α) {N : Nat} {P : Nat → α → Prop} (h : ∀ r, r < N → ∃ a, P r a) : ∃ f : Nat → α, ∀ r, r < N → P r (f r) := by
  refine ⟨fun r => if hr : r < N then Classical.choose (h r hr) else d, fun r hr => ?_⟩
  dsimp only
  rw [dif_pos hr]
  exact Classical.choose_spec (h r hr)
/-- hd r says whether rule r is met in state u -/
def sf_H (u : St1) (hd : Nat → Bool) : Prop := ∀ r, r < 12 → ∀ (post : Int32 → Prop) (x : Int32), x = nI r → post (sf_i (hd r)) → wpX_holds post u x
theorem sf_H_ex {f1 f2 f3 f4 f5 f6 f7 f8 : Int32} {a1 a2 a3 a4 a5 a6 a7 a8 a9 a10 a11 a12 a13 a14 a15 a16 a17 a18 a19 a20 a21 a22 a23 : Nat → Int32} (h3 : sf_W a3) : ∃ hd : Nat → Bool, sf_H (f1, f2, f3, f4, f5, f6, f7, f8, a1, a2, a3, a4, a5, a6, a7, a8, a9, a10, a11, a12, a13, a14, a15, a16, a17, a18, a19, a20, a21, a22, a23) hd ∧ ∀ r, r < 12 → sf_pl a3 r → hd r = true := by
  obtain ⟨f, hf⟩ := sf_choice false (N := 12) (P := fun r b => (sf_pl a3 r → b = true) ∧ ∀ (post : Int32 → Prop) (x : Int32), x = nI r → post (sf_i b) → wpX_holds post (f1, f2, f3, f4, f5, f6, f7, f8, a1, a2, a3, a4, a5, a6, a7, a8, a9, a10, a11, a12, a13, a14, a15, a16, a17, a18, a19, a20, a21, a22, a23) x) (fun r hr => sf_holds hr h3)
  exact ⟨f, fun r hr => (hf r hr).2, fun r hr => (hf r hr).1⟩
theorem sf_nm1 {t : Nat} (h : t < 2 ^ 31) : ¬ nI t = -1 := by
  intro e
  have := nI_pos h
  rw [e] at this
  exact this (by decide)
theorem sf_follow4 {f1 f2 f3 f4 f5 f6 f7 f8 : Int32} {a1 a2 a3 a4 a5 a6 a7 a8 a9 a10 a11 a12 a13 a14 a15 a16 a17 a18 a19 a20 a21 a22 a23 : Nat → Int32} {U : Nat → Prop} {n : Nat} {hd : Nat → Bool} (hn : n ≤ 12) (hH : sf_H (f1, f2, f3, f4, f5, f6, f7, f8, a1, a2, a3, a4, a5, a6, a7, a8, a9, a10, a11, a12, a13, a14, a15, a16, a17, a18, a19, a20, a21, a22, a23) hd) :
    ∀ d x, d ≤ n → sf_ch a13 a14 U n 400 d x → ∃ y : Int32, ((y = -1 ∧ ∀ r, n - d ≤ r → r < n → U r → hd r = false) ∨ (∃ r, r < n ∧ y = nI r ∧ U r ∧ hd r = true)) ∧
      ∀ (post : Int32 → Prop) (k fu : Nat), k + d ≤ 12 → d < fu → post y → wX_follow_4 post f1 f2 f3 f4 f5 f6 f7 f8 a1 a2 a3 a4 a5 a6 a7 a8 a9 a10 a11 a12 a13 a14 a15 a16 a17 a18 a19 a20 a21 a22 a23 fu x (nI k) := by
  intro d
  induction d with
  | zero =>
    intro x hd0 hc
    have hc' : x = -1 := hc
    subst hc'
    refine ⟨-1, Or.inl ⟨rfl, fun r h1 h2 => absurd h1 (by omega)⟩, ?_⟩
    intro post k fu hk hf hp
    obtain ⟨f, rfl⟩ : ∃ f, fu = f + 1 := ⟨fu - 1, by omega⟩
    exact pk_le 12 k (fun _ => hp) (fun _ => br_t rfl hp)
  | succ d ih =>
    intro x hdn hc
    by_cases hu : U (n - (d + 1))
    · obtain ⟨t, ht, ex, e13, hc2⟩ := hc.1 hu
      subst ex
      have vt : vp_in (nI t) 400 := pk_in t 400 ht
      have ct : (nI t).toNatClampNeg = t := nI_clamp (by omega)
      have er : a13 (nI t).toNatClampNeg = nI (n - (d + 1)) := by rw [ct, e13]
      cases eb : hd (n - (d + 1)) with
      | true =>
        refine ⟨nI (n - (d + 1)), Or.inr ⟨n - (d + 1), by omega, rfl, hu, eb⟩, ?_⟩
        intro post k fu hk hf hp
        obtain ⟨f, rfl⟩ : ∃ f, fu = f + 1 := ⟨fu - 1, by omega⟩
        refine pk_le 12 k (fun z => absurd z (by omega)) (fun _ => br_f (sf_nm1 (by omega)) ⟨vt, ?_⟩)
        refine hH (n - (d + 1)) (by omega) _ _ er ?_
        rw [eb]
        refine br_f sf_not1 ⟨vt, ?_⟩
        rw [er]
        exact hp
      | false =>
        obtain ⟨y, hy, hw⟩ := ih (a14 t) (by omega) hc2
        refine ⟨y, ?_, ?_⟩
        · rcases hy with ⟨h1, h2⟩ | h1
          · refine Or.inl ⟨h1, fun r g1 g2 g3 => ?_⟩
            by_cases e : r = n - (d + 1)
            · rw [e]; exact eb
            · exact h2 r (by omega) g2 g3
          · exact Or.inr h1
        · intro post k fu hk hf hp
          obtain ⟨f, rfl⟩ : ∃ f, fu = f + 1 := ⟨fu - 1, by omega⟩
          refine pk_le 12 k (fun z => absurd z (by omega)) (fun _ => br_f (sf_nm1 (by omega)) ⟨vt, ?_⟩)
          refine hH (n - (d + 1)) (by omega) _ _ er ?_
          rw [eb]
          exact br_t rfl ⟨vt, nm_r (by rw [ct]) (nm_r (nI_1 k) (hw post (k + 1) f (by omega) (by omega) hp))⟩
    · obtain ⟨y, hy, hw⟩ := ih x (by omega) (hc.2 hu)
      refine ⟨y, ?_, fun post k fu hk hf hp => hw post k fu (by omega) (by omega) hp⟩
      rcases hy with ⟨h1, h2⟩ | h1
      · refine Or.inl ⟨h1, fun r g1 g2 g3 => ?_⟩
        by_cases e : r = n - (d + 1)
        · rw [e] at g3; exact absurd g3 hu
        · exact h2 r (by omega) g2 g3
      · exact Or.inr h1
/-- the rule at which the chain of a set ends -/
theorem sf_follow {f1 f2 f3 f4 f5 f6 f7 f8 : Int32} {a1 a2 a3 a4 a5 a6 a7 a8 a9 a10 a11 a12 a13 a14 a15 a16 a17 a18 a19 a20 a21 a22 a23 : Nat → Int32} {U : Nat → Prop} {n : Nat} {hd : Nat → Bool} {x : Int32} (hn : n ≤ 12) (hH : sf_H (f1, f2, f3, f4, f5, f6, f7, f8, a1, a2, a3, a4, a5, a6, a7, a8, a9, a10, a11, a12, a13, a14, a15, a16, a17, a18, a19, a20, a21, a22, a23) hd) (hc : sf_ch a13 a14 U n 400 n x) :
    ∃ y : Int32, ((y = -1 ∧ ∀ r, r < n → U r → hd r = false) ∨ (∃ r, r < n ∧ y = nI r ∧ U r ∧ hd r = true)) ∧ ∀ post : Int32 → Prop, post y → wpX_follow post (f1, f2, f3, f4, f5, f6, f7, f8, a1, a2, a3, a4, a5, a6, a7, a8, a9, a10, a11, a12, a13, a14, a15, a16, a17, a18, a19, a20, a21, a22, a23) x := by
  obtain ⟨y, hy, hw⟩ := sf_follow4 hn hH n x (Nat.le_refl n) hc
  refine ⟨y, ?_, ?_⟩
  · rcases hy with ⟨h1, h2⟩ | h1
    · exact Or.inl ⟨h1, fun r g1 g2 => h2 r (by omega) g1 g2⟩
    · exact Or.inr h1
  · intro post hp
    unfold wpX_follow
    dsimp only
    exact ⟨n + 1, hw post 0 (n + 1) (by omega) (by omega) hp⟩
theorem sf_verdict {f1 f2 f3 f4 f5 f6 f7 f8 : Int32} {a1 a2 a3 a4 a5 a6 a7 a8 a9 a10 a11 a12 a13 a14 a15 a16 a17 a18 a19 a20 a21 a22 a23 : Nat → Int32} {U : Nat → Prop} {n s : Nat} {hd : Nat → Bool} (hn : n ≤ 12) (hs : s < 32) (hH : sf_H (f1, f2, f3, f4, f5, f6, f7, f8, a1, a2, a3, a4, a5, a6, a7, a8, a9, a10, a11, a12, a13, a14, a15, a16, a17, a18, a19, a20, a21, a22, a23) hd) (h4 : ∃ s, s < 4 ∧ f4 = nI s) (h6 : sf_A a6) (hc : sf_ch a13 a14 U n 400 n (a12 s)) :
    ∃ v, v < 4 ∧ ∀ (post : Int32 → Prop) (x : Int32), x = nI s → post (nI v) → wpX_verdict post (f1, f2, f3, f4, f5, f6, f7, f8, a1, a2, a3, a4, a5, a6, a7, a8, a9, a10, a11, a12, a13, a14, a15, a16, a17, a18, a19, a20, a21, a22, a23) x := by
  obtain ⟨y, hy, hw⟩ := sf_follow hn hH hc
  have cs : (nI s).toNatClampNeg = s := nI_clamp (by omega)
  rcases hy with ⟨h1, _⟩ | ⟨r, hr, e, _, _⟩
  · obtain ⟨v, hv, ev⟩ := h4
    refine ⟨v, hv, fun post x hx hp => ?_⟩
    subst hx
    unfold wpX_verdict
    dsimp only
    rw [cs]
    refine ⟨pk_in s 32 hs, hw _ (br_t h1 ?_)⟩
    rw [ev]
    exact hp
  · obtain ⟨v, hv, ev⟩ := h6 r (by omega)
    refine ⟨v, hv, fun post x hx hp => ?_⟩
    subst hx
    unfold wpX_verdict
    dsimp only
    rw [cs]
    refine ⟨pk_in s 32 hs, hw _ (br_f (by rw [e]; exact sf_nm1 (by omega)) ⟨pk_in r 13 (by omega) e, ?_⟩)⟩
    rw [e, nI_clamp (by omega), ev]
    exact hp
end
section
/-! stretchOf -/
theorem sf_str4 {post : Int32 → Prop} {f1 f2 f3 f4 f5 f6 f7 f8 : Int32} {a1 a2 a3 a4 a5 a6 a7 a8 a9 a10 a11 a12 a13 a14 a15 a16 a17 a18 a19 a20 a21 a22 a23 : Nat → Int32} {k S : Nat} {B : Nat → Nat} (hk : k < 32) (hB : ∀ s, s ≤ S → B s ≤ 32)
    (H : ∀ s, s < S → B s ≤ k → k < B (s + 1) → post (nI s)) :
    ∀ d j lo hi c, sf_tr a15 a16 a17 B d j lo hi → hi ≤ S → B lo ≤ k → k < B hi → c + d ≤ 7 → wX_stretchOf_4 post (nI k) f1 f2 f3 f4 f5 f6 f7 f8 a1 a2 a3 a4 a5 a6 a7 a8 a9 a10 a11 a12 a13 a14 a15 a16 a17 a18 a19 a20 a21 a22 a23 (d + 1) (nI j) (nI c) := by
  have leaf : ∀ n j lo c, j < 64 → a15 j = -1 → a16 j = nI lo → lo + 1 ≤ S → B lo ≤ k → k < B (lo + 1) → c ≤ 7 → wX_stretchOf_4 post (nI k) f1 f2 f3 f4 f5 f6 f7 f8 a1 a2 a3 a4 a5 a6 a7 a8 a9 a10 a11 a12 a13 a14 a15 a16 a17 a18 a19 a20 a21 a22 a23 (n + 1) (nI j) (nI c) := by
    intro n j lo c hj e15 e16 g1 g2 g3 g4
    have vj : vp_in (nI j) 64 := pk_in j 64 hj
    have cj : (nI j).toNatClampNeg = j := nI_clamp (by omega)
    refine pk_le 8 c (fun z => absurd z (by omega)) (fun _ => ⟨vj, br_t (by rw [cj]; exact e15) ⟨vj, ?_⟩⟩)
    rw [cj, e16]
    exact H lo (by omega) g2 g3
  intro d
  induction d with
  | zero =>
    intro j lo hi c ht g1 g2 g3 g4
    obtain ⟨hj, e, e15, e16⟩ := ht
    subst e
    exact leaf 0 j lo c hj e15 e16 g1 g2 g3 (by omega)
  | succ d ih =>
    intro j lo hi c ht g1 g2 g3 g4
    obtain ⟨hj, ⟨e, e15, e16⟩ | ⟨m, l, r, w1, w2, e15, e16, e17, t1, t2⟩⟩ := ht
    · subst e
      exact leaf (d + 1) j lo c hj e15 e16 g1 g2 g3 (by omega)
    · have vj : vp_in (nI j) 64 := pk_in j 64 hj
      have cj : (nI j).toNatClampNeg = j := nI_clamp (by omega)
      have hm := hB m (by omega)
      refine pk_le 8 c (fun z => absurd z (by omega)) (fun _ => ⟨vj, br_f (by rw [cj, e15]; exact sf_nm1 (by omega)) ⟨vj, ?_⟩⟩)
      refine pk_le (B m) k (fun z => ⟨vj, nm_r (by rw [cj, e17]) (nm_r (nI_1 c) (ih r m hi (c + 1) t2 g1 z g3 (by omega)))⟩) (fun z => ⟨vj, nm_r (by rw [cj, e16]) (nm_r (nI_1 c) (ih l lo m (c + 1) t1 (by omega) g2 z (by omega)))⟩) (by rw [cj, e15]) rfl
theorem sf_stretchOf {post : Int32 → Prop} {f1 f2 f3 f4 f5 f6 f7 f8 : Int32} {a1 a2 a3 a4 a5 a6 a7 a8 a9 a10 a11 a12 a13 a14 a15 a16 a17 a18 a19 a20 a21 a22 a23 : Nat → Int32} {k S : Nat} {B : Nat → Nat} (hk : k < 32) (h0 : B 0 = 0) (hS : B S = 32) (hB : ∀ s, s ≤ S → B s ≤ 32) (ht : sf_tr a15 a16 a17 B 5 0 0 S)
    (H : ∀ s, s < S → B s ≤ k → k < B (s + 1) → post (nI s)) : wpX_stretchOf post (f1, f2, f3, f4, f5, f6, f7, f8, a1, a2, a3, a4, a5, a6, a7, a8, a9, a10, a11, a12, a13, a14, a15, a16, a17, a18, a19, a20, a21, a22, a23) (nI k) := by
  unfold wpX_stretchOf
  dsimp only
  exact ⟨6, sf_str4 hk hB H 5 0 0 S 0 ht (Nat.le_refl S) (by omega) (by omega) (by omega)⟩
/-! matched -/
/-- p is what matched answers for k in the compiled state u -/
def sf_Res (u : St1) (k : Nat) (p : Int32) : Prop := match u with
  | (f1, f2, f3, f4, f5, f6, f7, f8, a1, a2, a3, a4, a5, a6, a7, a8, a9, a10, a11, a12, a13, a14, a15, a16, a17, a18, a19, a20, a21, a22, a23) => ∃ (n : Nat) (hd : Nat → Bool), n ≤ 12 ∧ f3 = nI n ∧ sf_H (f1, f2, f3, f4, f5, f6, f7, f8, a1, a2, a3, a4, a5, a6, a7, a8, a9, a10, a11, a12, a13, a14, a15, a16, a17, a18, a19, a20, a21, a22, a23) hd ∧
    ((p = -2 ∧ ∀ r, r < n → sf_bt (a10 k) r = true → hd r = false) ∨
     (∃ r, r < n ∧ p = nI r ∧ sf_bt (a10 k) r = true ∧ hd r = true ∧ ∀ j, j < r → ¬ (sf_bt (a10 k) j = true ∧ sf_bt f5 j = true)))
/-- no useful rule is met: no rule of the set is -/
theorem sf_none {s p : Int32} {n : Nat} {hd : Nat → Bool} (hn : n ≤ 12) (hp : ∀ r, r < n → sf_bt p r = true → hd r = true) (h : ∀ r, r < n → sf_us s p r → hd r = false) : ∀ r, r < n → sf_bt s r = true → hd r = false := by
  intro r hr hb
  by_cases c : ∀ j, j < r → ¬ (sf_bt s j = true ∧ sf_bt p j = true)
  · exact h r hr ⟨hb, c⟩
  · have hx : ∃ j, j < r ∧ sf_bt s j = true ∧ sf_bt p j = true := by
      by_cases q : ∃ j, j < r ∧ sf_bt s j = true ∧ sf_bt p j = true
      · exact q
      · exact absurd (fun j hj z => q ⟨j, hj, z⟩) c
    obtain ⟨j, ⟨j1, j2, j3⟩, jm⟩ := pk_least (fun j => j < r ∧ sf_bt s j = true ∧ sf_bt p j = true) hx
    have f := h j (by omega) ⟨j2, fun i hi z => jm i hi ⟨by omega, z⟩⟩
    rw [hp j (by omega) j3] at f
    exact absurd f (by decide)
theorem sf_matched {post : Int32 → St1 → Prop} {u : St1} {k : Nat} (hk : k < 32) (h : sf_Inv u) (H : ∀ u' p, sf_Cp u' → sf_Res u' k p → post p u') : wpX_matched post u (nI k) := by
  obtain ⟨f1, f2, f3, f4, f5, f6, f7, f8, a1, a2, a3, a4, a5, a6, a7, a8, a9, a10, a11, a12, a13, a14, a15, a16, a17, a18, a19, a20, a21, a22, a23⟩ := u
  unfold wpX_matched
  dsimp only
  refine sf_isNum1 hk (br_f sf_not1 (sf_compile h ?_))
  clear h
  intro u' hu
  obtain ⟨f1, f2, f3, f4, f5, f6, f7, f8, a1, a2, a3, a4, a5, a6, a7, a8, a9, a10, a11, a12, a13, a14, a15, a16, a17, a18, a19, a20, a21, a22, a23⟩ := u'
  dsimp only
  have hu' := hu
  obtain ⟨n, ⟨h1, h2, h3, h4, h5, h6⟩, h7, hC⟩ := hu'
  obtain ⟨hp, S, B, ⟨s1, s2, s3, s4, s5, s6, s7, s8, s9⟩, hch, htr⟩ := hC
  refine sf_stretchOf hk s4 s5 s7 htr ?_
  intro s hs g1 g2
  have cs : (nI s).toNatClampNeg = s := nI_clamp (by omega)
  refine ⟨pk_in s 32 (by omega), ?_⟩
  rw [cs]
  obtain ⟨hd, hH, hpl⟩ := sf_H_ex (f1 := f1) (f2 := f2) (f3 := f3) (f4 := f4) (f5 := f5) (f6 := f6) (f7 := f7) (f8 := f8) (a1 := a1) (a2 := a2) (a4 := a4) (a5 := a5) (a6 := a6) (a7 := a7) (a8 := a8) (a9 := a9) (a10 := a10) (a11 := a11) (a12 := a12) (a13 := a13) (a14 := a14) (a15 := a15) (a16 := a16) (a17 := a17) (a18 := a18) (a19 := a19) (a20 := a20) (a21 := a21) (a22 := a22) (a23 := a23) h4
  obtain ⟨y, hy, hw⟩ := sf_follow h1 hH (hch s hs)
  have e10 : a10 k = a10 (B s) := s9 s hs k g1 g2
  refine hw _ ?_
  rcases hy with ⟨y1, y2⟩ | ⟨r, y1, y2, y3, y4⟩
  · refine br_t y1 (H _ _ hu ⟨n, hd, h1, h2, hH, Or.inl ⟨rfl, ?_⟩⟩)
    rw [e10]
    exact sf_none h1 (fun r hr hb => hpl r (by omega) ((hp r (by omega)).mp hb).2) y2
  · refine br_f (by rw [y2]; exact sf_nm1 (by omega)) (H _ _ hu ⟨n, hd, h1, h2, hH, Or.inr ⟨r, y1, y2, ?_⟩⟩)
    rw [e10]
    exact ⟨y3.1, y4, y3.2⟩
/-! matching -/
theorem sf_mat17 {post : Int32 → St1 → Prop} {f1 f2 f3 f4 f5 f6 f7 f8 : Int32} {a1 a2 a3 a4 a5 a6 a7 a8 a9 a10 a11 a12 a13 a14 a15 a16 a17 a18 a19 a20 a21 a22 a23 : Nat → Int32} {k n : Nat} {hd : Nat → Bool} (hk : k < 32) (hn : n ≤ 12) (h3 : f3 = nI n) (hH : sf_H (f1, f2, f3, f4, f5, f6, f7, f8, a1, a2, a3, a4, a5, a6, a7, a8, a9, a10, a11, a12, a13, a14, a15, a16, a17, a18, a19, a20, a21, a22, a23) hd)
    (H : ∀ q, q ≤ 12 → (q = 0 ↔ ∀ r, r < n → sf_bt (a10 k) r = true → hd r = false) → post (nI q) (f1, f2, f3, f4, f5, f6, f7, f8, a1, a2, a3, a4, a5, a6, a7, a8, a9, a10, a11, a12, a13, a14, a15, a16, a17, a18, a19, a20, a21, a22, a23)) :
    ∀ m r q, r + m = n → q ≤ r → (q = 0 ↔ ∀ i, i < r → sf_bt (a10 k) i = true → hd i = false) → wX_matching_17 post (nI k) f1 f2 f3 f4 f5 f6 f7 f8 a1 a2 a3 a4 a5 a6 a7 a8 a9 a10 a11 a12 a13 a14 a15 a16 a17 a18 a19 a20 a21 a22 a23 (m + 1) (nI q) (nI r) := by
  intro m
  induction m with
  | zero =>
    intro r q hr hq hz
    have e : r = n := by omega
    subst e
    exact pk_le r r (fun _ => H q (by omega) hz) (fun z => absurd z (by omega)) h3 rfl
  | succ m ih =>
    intro r q hr hq hz
    have ck : (nI k).toNatClampNeg = k := nI_clamp (by omega)
    have skip : (sf_bt (a10 k) r = true → hd r = false) → (q = 0 ↔ ∀ i, i < r + 1 → sf_bt (a10 k) i = true → hd i = false) := by
      intro hs
      rw [hz]
      constructor
      · intro h i hi hb
        by_cases e : i = r
        · subst e; exact hs hb
        · exact h i (by omega) hb
      · exact fun h i hi hb => h i (by omega) hb
    refine pk_le n r (fun z => absurd z (by omega)) (fun _ => ⟨pk_in k 32 hk, ?_⟩) h3 rfl
    rw [ck]
    refine br_c (fun e => ?_) (fun e => nm_r (nI_1 r) (ih (r + 1) q (by omega) (by omega) (skip (fun z => absurd ((sf_bit _ r (by omega)).mpr z) e))))
    have hb := (sf_bit _ r (by omega)).mp e
    refine hH r (by omega) _ _ rfl ?_
    cases eb : hd r with
    | false => exact br_t rfl (nm_r (nI_1 r) (ih (r + 1) q (by omega) (by omega) (skip (fun _ => eb))))
    | true =>
      refine br_f sf_not1 (nm_r (nI_1 q) (nm_r (nI_1 r) (ih (r + 1) (q + 1) (by omega) (by omega) ?_)))
      constructor
      · exact fun z => absurd z (by omega)
      · intro h
        have := h r (by omega) hb
        rw [eb] at this
        exact absurd this (by decide)
theorem sf_matching {post : Int32 → St1 → Prop} {u : St1} {k : Nat} {p : Int32} (hk : k < 32) (h : sf_Cp u) (hr : sf_Res u k p)
    (H : ∀ q, q ≤ 12 → ((p = -2 ∧ q = 0) ∨ (∃ r, r < 12 ∧ p = nI r ∧ 1 ≤ q)) → post (nI q) u) : wpX_matching post u (nI k) := by
  obtain ⟨f1, f2, f3, f4, f5, f6, f7, f8, a1, a2, a3, a4, a5, a6, a7, a8, a9, a10, a11, a12, a13, a14, a15, a16, a17, a18, a19, a20, a21, a22, a23⟩ := u
  unfold wpX_matching
  dsimp only
  refine sf_isNum1 hk (br_f sf_not1 (sf_compile1 h ?_))
  obtain ⟨n, hd, h1, h2, hH, hx⟩ := hr
  dsimp only
  refine ⟨n + 1, sf_mat17 hk h1 h2 hH ?_ n 0 0 (by omega) (by omega) ⟨fun _ i hi => absurd hi (by omega), fun _ => rfl⟩⟩
  intro q hq hz
  refine H q hq ?_
  rcases hx with ⟨x1, x2⟩ | ⟨r, x1, x2, x3, x4, x5⟩
  · exact Or.inl ⟨x1, hz.mpr x2⟩
  · refine Or.inr ⟨r, by omega, x2, ?_⟩
    by_cases e : q = 0
    · have := hz.mp e r x1 x3
      rw [x4] at this
      exact absurd this (by decide)
    · omega
/-! hidden -/
theorem sf_hid27 {post : Int32 → St1 → Prop} {f1 f2 f3 f4 f5 f6 f7 f8 : Int32} {a1 a2 a3 a4 a5 a6 a7 a8 a9 a10 a11 a12 a13 a14 a15 a16 a17 a18 a19 a20 a21 a22 a23 : Nat → Int32} {r S s0 : Nat} {B : Nat → Nat} (hr : r < 12) (hS : sf_St f6 a10 a11 S B) (hs0 : s0 < S) (hb : sf_bt (a10 (B s0)) r = true) (hz : ∀ j, j < r → ¬ (sf_bt (a10 (B s0)) j = true ∧ sf_bt f5 j = true))
    (H : post 0 (f1, f2, f3, f4, f5, f6, f7, f8, a1, a2, a3, a4, a5, a6, a7, a8, a9, a10, a11, a12, a13, a14, a15, a16, a17, a18, a19, a20, a21, a22, a23)) : ∀ m s, s + m = s0 → wX_hidden_27 post (nI r) (f5 &&& (((1 : Int32) <<< (nI r &&& 31)) - 1)) f1 f2 f3 f4 f5 f6 f7 f8 a1 a2 a3 a4 a5 a6 a7 a8 a9 a10 a11 a12 a13 a14 a15 a16 a17 a18 a19 a20 a21 a22 a23 (m + 1) (nI s) := by
  obtain ⟨s1, s2, s3, s4, s5, s6, s7, s8, s9⟩ := hS
  have e1 : ∀ s, s < S → a11 (nI s).toNatClampNeg = nI (B s) := fun s hs => by rw [nI_clamp (by omega)]; exact s6 s (by omega)
  have e2 : ∀ s, s < S → a10 (a11 (nI s).toNatClampNeg).toNatClampNeg = a10 (B s) := fun s hs => by
    have := s7 s (by omega)
    rw [e1 s hs, nI_clamp (by omega)]
  have b1 : ∀ s, s < S → B s < 32 := fun s hs => by
    have := s8 s hs
    have := s7 (s + 1) (by omega)
    omega
  intro m
  induction m with
  | zero =>
    intro s hs
    have e : s = s0 := by omega
    subst e
    refine pk_le S s (fun z => absurd z (by omega)) (fun _ => ⟨pk_in s 33 (by omega), pk_in (B s) 32 (b1 s hs0) (e1 s hs0), nm_r (e2 s hs0) ?_⟩) s1 rfl
    exact br_t ((sf_bit _ r (by omega)).mpr hb) (br_t (sf_hid (by omega) hz) H)
  | succ m ih =>
    intro s hs
    refine pk_le S s (fun z => absurd z (by omega)) (fun _ => ⟨pk_in s 33 (by omega), pk_in (B s) 32 (b1 s (by omega)) (e1 s (by omega)), nm_e ?_⟩) s1 rfl
    exact br_c (fun _ => br_c (fun _ => H) (fun _ => nm_r (nI_1 s) (ih (s + 1) (by omega)))) (fun _ => nm_r (nI_1 s) (ih (s + 1) (by omega)))
/-- the stretch of a number -/
theorem sf_find {B : Nat → Nat} {k : Nat} (h0 : B 0 = 0) : ∀ S, k < B S → ∃ s, s < S ∧ B s ≤ k ∧ k < B (s + 1) := by
  intro S
  induction S with
  | zero => intro h; rw [h0] at h; exact absurd h (by omega)
  | succ S ih =>
    intro h
    rcases Nat.lt_or_ge k (B S) with c | c
    · obtain ⟨s, q1, q2, q3⟩ := ih c
      exact ⟨s, by omega, q2, q3⟩
    · exact ⟨S, by omega, c, h⟩
theorem sf_hidden {post : Int32 → St1 → Prop} {u : St1} {k : Nat} {p : Int32} (hk : k < 32) (h : sf_Cp u) (hr : sf_Res u k p) (hp : ¬ p < 0) (H : post 0 u) : wpX_hidden post u p := by
  obtain ⟨f1, f2, f3, f4, f5, f6, f7, f8, a1, a2, a3, a4, a5, a6, a7, a8, a9, a10, a11, a12, a13, a14, a15, a16, a17, a18, a19, a20, a21, a22, a23⟩ := u
  unfold wpX_hidden
  dsimp only
  obtain ⟨n, hd, h1, h2, hH, hx⟩ := hr
  rcases hx with ⟨x1, x2⟩ | ⟨r, x1, x2, x3, x4, x5⟩
  · rw [x1] at hp
    exact absurd (by decide) hp
  · subst x2
    refine sf_isRule1 h1 h2 x1 (br_f sf_not1 (sf_compile1 h ?_))
    obtain ⟨n', _, h7, hC⟩ := h
    obtain ⟨_, S, B, hS, hch, htr⟩ := hC
    obtain ⟨s, q1, q2, q3⟩ := sf_find (k := k) hS.2.2.2.1 S (by rw [hS.2.2.2.2.1]; exact hk)
    have e10 : a10 k = a10 (B s) := hS.2.2.2.2.2.2.2.2 s q1 k q2 q3
    rw [e10] at x3 x5
    dsimp only
    exact nm_e ⟨s + 1, sf_hid27 (by omega) hS q1 x3 x5 H s 0 (by omega)⟩
end
section
/-! countWith -/
/-- how many numbers below stretch s have the verdict x -/
def sf_cs (v B : Nat → Nat) (x : Nat) : Nat → Nat
  | 0 => 0
  | s + 1 => sf_cs v B x s + (if v s = x then B (s + 1) - B s else 0)
theorem sf_cs_sum {v B : Nat → Nat} {S : Nat} (h0 : B 0 = 0) (hv : ∀ s, s < S → v s < 4) (hB : ∀ s, s < S → B s < B (s + 1)) :
    ∀ s, s ≤ S → sf_cs v B 0 s + sf_cs v B 1 s + sf_cs v B 2 s + sf_cs v B 3 s = B s := by
  intro s
  induction s with
  | zero => intro _; rw [h0]; rfl
  | succ s ih =>
    intro hs
    have q := ih (by omega)
    have w := hv s (by omega)
    have b := hB s (by omega)
    show (sf_cs v B 0 s + (if v s = 0 then B (s + 1) - B s else 0)) + (sf_cs v B 1 s + (if v s = 1 then B (s + 1) - B s else 0)) + (sf_cs v B 2 s + (if v s = 2 then B (s + 1) - B s else 0)) + (sf_cs v B 3 s + (if v s = 3 then B (s + 1) - B s else 0)) = B (s + 1)
    have c : v s = 0 ∨ v s = 1 ∨ v s = 2 ∨ v s = 3 := by omega
    rcases c with c | c | c | c
    all_goals
      rw [c]
      simp
      omega
theorem sf_cs_le {v B : Nat → Nat} {S x : Nat} (h0 : B 0 = 0) (hB : ∀ s, s < S → B s < B (s + 1)) : ∀ s, s ≤ S → sf_cs v B x s ≤ B s := by
  intro s
  induction s with
  | zero => intro _; rw [h0]; exact Nat.le_refl 0
  | succ s ih =>
    intro hs
    have q := ih (by omega)
    have b := hB s (by omega)
    show sf_cs v B x s + (if v s = x then B (s + 1) - B s else 0) ≤ B (s + 1)
    by_cases c : v s = x
    · rw [if_pos c]; omega
    · rw [if_neg c]; omega
theorem sf_cw44 {post : Int32 → St1 → Prop} {f1 f2 f3 f4 f5 f6 f7 f8 : Int32} {a1 a2 a3 a4 a5 a6 a7 a8 a9 a10 a11 a12 a13 a14 a15 a16 a17 a18 a19 a20 a21 a22 a23 : Nat → Int32} {x S : Nat} {B v : Nat → Nat} (hx : x < 4) (hS : sf_St f6 a10 a11 S B)
    (hv : ∀ s, s < S → v s < 4 ∧ ∀ (post : Int32 → Prop) (x : Int32), x = nI s → post (nI (v s)) → wpX_verdict post (f1, f2, f3, f4, f5, f6, f7, f8, a1, a2, a3, a4, a5, a6, a7, a8, a9, a10, a11, a12, a13, a14, a15, a16, a17, a18, a19, a20, a21, a22, a23) x)
    (H : post (nI (sf_cs v B x S)) (f1, f2, f3, f4, f5, f6, f7, f8, a1, a2, a3, a4, a5, a6, a7, a8, a9, a10, a11, a12, a13, a14, a15, a16, a17, a18, a19, a20, a21, a22, a23)) :
    ∀ m s, s + m = S → wX_countWith_44 post (nI x) 0 31 f1 f2 f3 f4 f5 f6 f7 f8 a1 a2 a3 a4 a5 a6 a7 a8 a9 a10 a11 a12 a13 a14 a15 a16 a17 a18 a19 a20 a21 a22 a23 (m + 1) (nI (sf_cs v B x s)) (nI s) := by
  obtain ⟨s1, s2, s3, s4, s5, s6, s7, s8, s9⟩ := hS
  intro m
  induction m with
  | zero =>
    intro s hs
    have e : s = S := by omega
    subst e
    exact pk_le s s (fun _ => H) (fun z => absurd z (by omega)) s1 rfl
  | succ m ih =>
    intro s hs
    have hb1 := s8 s (by omega)
    have hb2 := s7 (s + 1) (by omega)
    have hq := sf_cs_le (v := v) (x := x) s4 s8 s (by omega)
    obtain ⟨hv1, hv2⟩ := hv s (by omega)
    have cs : (nI s).toNatClampNeg = s := nI_clamp (by omega)
    have cs1 : (nI s + 1).toNatClampNeg = s + 1 := pk_cl (s + 1) (nI_1 s)
    have e1 : a11 (nI s).toNatClampNeg = nI (B s) := by rw [cs]; exact s6 s (by omega)
    have e2 : a11 (nI s + 1).toNatClampNeg - 1 = nI (B (s + 1) - 1) := by
      rw [cs1, s6 (s + 1) (by omega)]
      exact pk_sub (b := 1) (by omega)
    have v33 : vp_in (nI s) 33 := pk_in s 33 (by omega)
    have v33' : vp_in (nI s + 1) 33 := pk_in (s + 1) 33 (by omega) (nI_1 s)
    have k107 : wX_countWith_107 post (wX_countWith_44 post (nI x) 0 31 f1 f2 f3 f4 f5 f6 f7 f8 a1 a2 a3 a4 a5 a6 a7 a8 a9 a10 a11 a12 a13 a14 a15 a16 a17 a18 a19 a20 a21 a22 a23 (m + 1)) (nI x) 0 31 (nI (sf_cs v B x s)) (nI s) (nI (B s)) (nI (B (s + 1) - 1)) f1 f2 f3 f4 f5 f6 f7 f8 a1 a2 a3 a4 a5 a6 a7 a8 a9 a10 a11 a12 a13 a14 a15 a16 a17 a18 a19 a20 a21 a22 a23 := by
      unfold wX_countWith_107
      refine pk_lt (B (s + 1) - 1) (B s) (fun z => absurd z (by omega)) (fun _ => ?_)
      refine hv2 _ _ rfl ?_
      have t := ih (s + 1) (by omega)
      have ec : sf_cs v B x (s + 1) = sf_cs v B x s + (if v s = x then B (s + 1) - B s else 0) := rfl
      refine pk_eq (v s) x (fun z => ?_) (fun z => ?_)
      · rw [if_pos z] at ec
        refine nm_r (e' := nI (sf_cs v B x (s + 1))) ?_ (nm_r (nI_1 s) t)
        rw [pk_sub (by omega), nI_1, nI_add, ec]
        exact congrArg nI (by omega)
      · rw [if_neg z, Nat.add_zero] at ec
        rw [ec] at t
        exact nm_r (nI_1 s) t
    have k75 : wX_countWith_75 post (wX_countWith_44 post (nI x) 0 31 f1 f2 f3 f4 f5 f6 f7 f8 a1 a2 a3 a4 a5 a6 a7 a8 a9 a10 a11 a12 a13 a14 a15 a16 a17 a18 a19 a20 a21 a22 a23 (m + 1)) (nI x) 0 31 (nI (sf_cs v B x s)) (nI s) (nI (B s)) f1 f2 f3 f4 f5 f6 f7 f8 a1 a2 a3 a4 a5 a6 a7 a8 a9 a10 a11 a12 a13 a14 a15 a16 a17 a18 a19 a20 a21 a22 a23 := by
      unfold wX_countWith_75
      rw [e2]
      refine ⟨v33', pk_le 31 (B (s + 1) - 1) (fun z => ?_) (fun z => ⟨v33', k107⟩)⟩
      rw [show B (s + 1) - 1 = 31 by omega] at k107
      exact k107
    refine pk_le S s (fun z => absurd z (by omega)) (fun _ => ⟨v33, ?_⟩) s1 rfl
    rw [e1]
    refine pk_le (B s) 0 (fun z => ?_) (fun z => ⟨v33, k75⟩)
    rw [show B s = 0 by omega] at k75
    exact k75
theorem sf_countWith {u : St1} (h : sf_Cp u) : ∃ c : Nat → Nat, c 0 + c 1 + c 2 + c 3 = 32 ∧
    ∀ x, x < 4 → ∀ post : Int32 → St1 → Prop, post (nI (c x)) u → wpX_countWith post u (nI x) 0 31 := by
  obtain ⟨f1, f2, f3, f4, f5, f6, f7, f8, a1, a2, a3, a4, a5, a6, a7, a8, a9, a10, a11, a12, a13, a14, a15, a16, a17, a18, a19, a20, a21, a22, a23⟩ := u
  have h' := h
  obtain ⟨n, ⟨h1, h2, h3, h4, h5, h6⟩, h7, hC⟩ := h'
  obtain ⟨hp, S, B, hS, hch, htr⟩ := hC
  have hS' := hS
  obtain ⟨s1, s2, s3, s4, s5, s6, s7, s8, s9⟩ := hS'
  obtain ⟨hd, hH, _⟩ := sf_H_ex (f1 := f1) (f2 := f2) (f3 := f3) (f4 := f4) (f5 := f5) (f6 := f6) (f7 := f7) (f8 := f8) (a1 := a1) (a2 := a2) (a4 := a4) (a5 := a5) (a6 := a6) (a7 := a7) (a8 := a8) (a9 := a9) (a10 := a10) (a11 := a11) (a12 := a12) (a13 := a13) (a14 := a14) (a15 := a15) (a16 := a16) (a17 := a17) (a18 := a18) (a19 := a19) (a20 := a20) (a21 := a21) (a22 := a22) (a23 := a23) h4
  obtain ⟨v, hv⟩ := sf_choice 0 (N := S) (P := fun s w => w < 4 ∧ ∀ (post : Int32 → Prop) (x : Int32), x = nI s → post (nI w) → wpX_verdict post (f1, f2, f3, f4, f5, f6, f7, f8, a1, a2, a3, a4, a5, a6, a7, a8, a9, a10, a11, a12, a13, a14, a15, a16, a17, a18, a19, a20, a21, a22, a23) x) (fun s hs => sf_verdict h1 (by omega) hH h3 h5 (hch s hs))
  refine ⟨fun x => sf_cs v B x S, ?_, ?_⟩
  · dsimp only
    rw [sf_cs_sum s4 (fun s hs => (hv s hs).1) s8 S (Nat.le_refl S)]
    exact s5
  · intro x hx post hpost
    unfold wpX_countWith
    dsimp only
    refine sf_isNum1 (k := 0) (by omega) (br_f sf_not1 (sf_isNum1 (k := 31) (by omega) (br_f sf_not1 (br_t (by decide) ?_))))
    unfold wpX_isAction
    refine br_f (nI_pos (by omega)) (br_f (nI_nlt (b := x) (a := 3) (by omega) (by omega)) (br_f sf_not1 (sf_compile1 h ?_)))
    dsimp only
    exact ⟨S + 1, sf_cw44 hx hS hv hpost S 0 (by omega)⟩
end
section
/-! the law's own methods -/
def sf_sm (c : Nat → Nat) : Nat → Nat
  | 0 => 0
  | x + 1 => sf_sm c x + c x
theorem sf_holds65 {post : Int32 → St1 → Prop} {f1 f2 f3 f4 f5 f6 f7 f8 : Int32} {a1 a2 a3 a4 a5 a6 a7 a8 a9 a10 a11 a12 a13 a14 a15 a16 a17 a18 a19 a20 a21 a22 a23 : Nat → Int32} (h : sf_Cp (f1, f2, f3, f4, f5, f6, f7, f8, a1, a2, a3, a4, a5, a6, a7, a8, a9, a10, a11, a12, a13, a14, a15, a16, a17, a18, a19, a20, a21, a22, a23)) (H : post 1 (f1, f2, f3, f4, f5, f6, f7, f8, a1, a2, a3, a4, a5, a6, a7, a8, a9, a10, a11, a12, a13, a14, a15, a16, a17, a18, a19, a20, a21, a22, a23)) : ∃ fu, wL_holds_65 post fu 0 0 f1 f2 f3 f4 f5 f6 f7 f8 a1 a2 a3 a4 a5 a6 a7 a8 a9 a10 a11 a12 a13 a14 a15 a16 a17 a18 a19 a20 a21 a22 a23 := by
  obtain ⟨c, hc, hw⟩ := sf_countWith h
  have key : ∀ m x, x + m = 4 → wL_holds_65 post (m + 1) (nI (sf_sm c x)) (nI x) f1 f2 f3 f4 f5 f6 f7 f8 a1 a2 a3 a4 a5 a6 a7 a8 a9 a10 a11 a12 a13 a14 a15 a16 a17 a18 a19 a20 a21 a22 a23 := by
    intro m
    induction m with
    | zero =>
      intro x hx
      have e : x = 4 := by omega
      subst e
      have e4 : sf_sm c 4 = 32 := by
        show 0 + c 0 + c 1 + c 2 + c 3 = 32
        omega
      rw [e4]
      exact pk_le 4 4 (fun _ => br_t rfl H) (fun z => absurd z (by omega))
    | succ m ih =>
      intro x hx
      refine pk_le 4 x (fun z => absurd z (by omega)) (fun _ => hw x (by omega) _ ?_)
      dsimp only
      exact nm_r (nI_add _ _) (nm_r (nI_1 x) (ih (x + 1) (by omega)))
  exact ⟨5, key 4 0 (by omega)⟩
theorem sf_holds2 {post : Int32 → St1 → Prop} (H : ∀ u', sf_Inv u' → post 1 u') :
    ∀ m k, k + m = 32 → ∀ (f1 f2 f3 f4 f5 f6 f7 f8 : Int32) (a1 a2 a3 a4 a5 a6 a7 a8 a9 a10 a11 a12 a13 a14 a15 a16 a17 a18 a19 a20 a21 a22 a23 : Nat → Int32), sf_Inv (f1, f2, f3, f4, f5, f6, f7, f8, a1, a2, a3, a4, a5, a6, a7, a8, a9, a10, a11, a12, a13, a14, a15, a16, a17, a18, a19, a20, a21, a22, a23) → (0 < k → sf_Cp (f1, f2, f3, f4, f5, f6, f7, f8, a1, a2, a3, a4, a5, a6, a7, a8, a9, a10, a11, a12, a13, a14, a15, a16, a17, a18, a19, a20, a21, a22, a23)) → wL_holds_2 post (m + 1) (nI k) f1 f2 f3 f4 f5 f6 f7 f8 a1 a2 a3 a4 a5 a6 a7 a8 a9 a10 a11 a12 a13 a14 a15 a16 a17 a18 a19 a20 a21 a22 a23 := by
  intro m
  induction m with
  | zero =>
    intro k hk f1 f2 f3 f4 f5 f6 f7 f8 a1 a2 a3 a4 a5 a6 a7 a8 a9 a10 a11 a12 a13 a14 a15 a16 a17 a18 a19 a20 a21 a22 a23 hi hc
    exact pk_le 32 k (fun _ => sf_holds65 (hc (by omega)) (H _ hi)) (fun z => absurd z (by omega))
  | succ m ih =>
    intro k hk f1 f2 f3 f4 f5 f6 f7 f8 a1 a2 a3 a4 a5 a6 a7 a8 a9 a10 a11 a12 a13 a14 a15 a16 a17 a18 a19 a20 a21 a22 a23 hi hc
    clear hc
    refine pk_le 32 k (fun z => absurd z (by omega)) (fun _ => sf_matched (by omega) hi ?_)
    clear hi
    intro u' p hu hr
    obtain ⟨f1, f2, f3, f4, f5, f6, f7, f8, a1, a2, a3, a4, a5, a6, a7, a8, a9, a10, a11, a12, a13, a14, a15, a16, a17, a18, a19, a20, a21, a22, a23⟩ := u'
    dsimp only
    refine sf_matching (by omega) hu hr ?_
    intro q hq hx
    dsimp only
    have next : wL_holds_2 post (m + 1) (nI (k + 1)) f1 f2 f3 f4 f5 f6 f7 f8 a1 a2 a3 a4 a5 a6 a7 a8 a9 a10 a11 a12 a13 a14 a15 a16 a17 a18 a19 a20 a21 a22 a23 := ih (k + 1) (by omega) f1 f2 f3 f4 f5 f6 f7 f8 a1 a2 a3 a4 a5 a6 a7 a8 a9 a10 a11 a12 a13 a14 a15 a16 a17 a18 a19 a20 a21 a22 a23 (sf_cp_inv hu) (fun _ => hu)
    have k36 : (p < 0 ∨ ¬ nI q < 1) → wL_holds_36 post (wL_holds_2 post (m + 1)) (nI k) p (nI q) f1 f2 f3 f4 f5 f6 f7 f8 a1 a2 a3 a4 a5 a6 a7 a8 a9 a10 a11 a12 a13 a14 a15 a16 a17 a18 a19 a20 a21 a22 a23 := by
      intro hpq
      unfold wL_holds_36
      refine br_c (fun _ => nm_r (nI_1 k) next) (fun g => br_f (Or.resolve_left hpq g) (sf_hidden (by omega) hu hr g ?_))
      dsimp only
      exact br_t rfl (nm_r (nI_1 k) next)
    rcases hx with ⟨x1, x2⟩ | ⟨r, x1, x2, x3⟩
    · subst x1 x2
      exact br_f (by decide) (br_t rfl (br_t rfl (k36 (Or.inl (by decide)))))
    · subst x2
      exact br_t (nI_pos' (by omega)) (k36 (Or.inr (nI_nlt (b := 1) x3 (by omega))))
theorem sf_lholds {post : Int32 → St1 → Prop} {u : St1} (h : sf_Inv u) (H : ∀ u', sf_Inv u' → post 1 u') : wpL_holds post u := by
  obtain ⟨f1, f2, f3, f4, f5, f6, f7, f8, a1, a2, a3, a4, a5, a6, a7, a8, a9, a10, a11, a12, a13, a14, a15, a16, a17, a18, a19, a20, a21, a22, a23⟩ := u
  unfold wpL_holds
  dsimp only
  exact ⟨33, sf_holds2 H 32 0 (by omega) f1 f2 f3 f4 f5 f6 f7 f8 a1 a2 a3 a4 a5 a6 a7 a8 a9 a10 a11 a12 a13 a14 a15 a16 a17 a18 a19 a20 a21 a22 a23 h (fun z => absurd z (by omega))⟩
theorem sf_cell {post : Int32 → Prop} {L : Nat} {xs : Nat → Int32} {u : St2} {p : Int32} (k : Nat) (hk : k < 1000) (hL : L ≤ 260) (hp : p = nI k) (H : ∀ v, post v) : wpL_cell post L xs u p := by
  subst hp
  unfold wpL_cell
  exact pk_le L k (fun _ => H _) (fun z => ⟨pk_in k L z, H _⟩)
theorem sf_law10 {post : Int32 → Prop} {L : Nat} {xs : Nat → Int32} {kc ks : Nat} (hL : L ≤ 260) (H : post 1) :
    ∀ m k, L ≤ k + m → k < 900 → ∀ (f1 f2 f3 f4 f5 f6 f7 f8 : Int32) (a1 a2 a3 a4 a5 a6 a7 a8 a9 a10 a11 a12 a13 a14 a15 a16 a17 a18 a19 a20 a21 a22 a23 : Nat → Int32), sf_Inv (f1, f2, f3, f4, f5, f6, f7, f8, a1, a2, a3, a4, a5, a6, a7, a8, a9, a10, a11, a12, a13, a14, a15, a16, a17, a18, a19, a20, a21, a22, a23) → wL_law_10 post L xs kc ks (m + 1) (nI k) f1 f2 f3 f4 f5 f6 f7 f8 a1 a2 a3 a4 a5 a6 a7 a8 a9 a10 a11 a12 a13 a14 a15 a16 a17 a18 a19 a20 a21 a22 a23 := by
  intro m
  induction m with
  | zero =>
    intro k hm hk f1 f2 f3 f4 f5 f6 f7 f8 a1 a2 a3 a4 a5 a6 a7 a8 a9 a10 a11 a12 a13 a14 a15 a16 a17 a18 a19 a20 a21 a22 a23 hi
    exact pk_le L k (fun _ => H) (fun z => absurd z (by omega))
  | succ m ih =>
    intro k hm hk f1 f2 f3 f4 f5 f6 f7 f8 a1 a2 a3 a4 a5 a6 a7 a8 a9 a10 a11 a12 a13 a14 a15 a16 a17 a18 a19 a20 a21 a22 a23 hi
    refine pk_le L k (fun _ => H) (fun z => ?_)
    refine sf_cell k (by omega) hL rfl (fun v1 => ?_)
    refine sf_cell (k + 1) (by omega) hL (nI_1 k) (fun v2 => ?_)
    refine sf_cell (k + 2) (by omega) hL (nI_add k 2) (fun v3 => ?_)
    refine sf_turn hi ?_
    clear hi
    intro u' hu
    obtain ⟨f1, f2, f3, f4, f5, f6, f7, f8, a1, a2, a3, a4, a5, a6, a7, a8, a9, a10, a11, a12, a13, a14, a15, a16, a17, a18, a19, a20, a21, a22, a23⟩ := u'
    dsimp only
    refine sf_lholds hu ?_
    clear hu
    intro u' hu
    obtain ⟨f1, f2, f3, f4, f5, f6, f7, f8, a1, a2, a3, a4, a5, a6, a7, a8, a9, a10, a11, a12, a13, a14, a15, a16, a17, a18, a19, a20, a21, a22, a23⟩ := u'
    dsimp only
    exact br_f sf_not1 (nm_r (nI_add k 3) (ih (k + 3) (by omega) (by omega) f1 f2 f3 f4 f5 f6 f7 f8 a1 a2 a3 a4 a5 a6 a7 a8 a9 a10 a11 a12 a13 a14 a15 a16 a17 a18 a19 a20 a21 a22 a23 hu))
theorem i_vc (xs : Nat → Int32) (L : Nat) (hL : L ≤ 260) : wpL_law (fun r => r = 1) L xs := by
  unfold wpL_law
  refine ⟨23, 1414, by omega, by omega, ?_⟩
  unfold wpX_init
  dsimp only
  refine ⟨by omega, by omega, by omega, by omega, by omega, by omega, by omega, by omega, by omega, by omega, by omega, by omega, by omega, by omega, by omega, by omega, by omega, by omega, by omega, by omega, by omega, by omega, by omega, by omega, by omega, by omega, by omega, by omega, by omega, by omega, by omega, by omega, by omega, by omega, by omega, by omega, by omega, by omega, by omega, by omega, by omega, by omega, by omega, by omega, by omega, by omega, ?_⟩
  refine ⟨L + 1, sf_law10 (post := fun r => r = 1) hL rfl L 0 (by omega) (by omega) _ _ _ _ _ _ _ _ _ _ _ _ _ _ _ _ _ _ _ _ _ _ _ _ _ _ _ _ _ _ _ ?_⟩
  refine ⟨0, ⟨by omega, rfl, ⟨0, by omega, rfl⟩, ?_, ?_, ?_⟩, Or.inl rfl⟩
  · exact fun c _ => ⟨0, by omega, rfl⟩
  · exact fun c _ => ⟨0, by omega, rfl⟩
  · exact fun c _ => ⟨0, by omega, rfl⟩
end
