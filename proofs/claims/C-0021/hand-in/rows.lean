section
theorem pk_us {f : Nat → Int32} {k : Nat} {x : Int32} : upd f k x k = x := if_pos rfl
theorem pk_un {f : Nat → Int32} {k j : Nat} {x : Int32} (h : j ≠ k) : upd f k x j = f j := if_neg h
theorem pk_sub {a b : Nat} (h : b ≤ a) : nI a - nI b = nI (a - b) := by
  obtain ⟨c, rfl⟩ : ∃ c, a = c + b := ⟨a - b, by omega⟩
  rw [← nI_add, Int32.add_sub_cancel, Nat.add_sub_cancel]
theorem pk_m1 (n : Nat) : nI (n + 1) + (-1) = nI n := by
  rw [← nI_1, Int32.add_assoc, show (1 : Int32) + (-1) = 0 from rfl, Int32.add_zero]
theorem pk_mul (a b : Nat) : nI a * nI b = nI (a * b) := (Int32.ofNat_mul a b).symm
theorem pk_ix (x : Int32) {n : Nat} (hn : n < 2 ^ 31) : x < 0 ∨ nI n ≤ x ∨ ∃ j : Nat, j < n ∧ x = nI j := by
  by_cases h : x < 0
  · exact Or.inl h
  · obtain ⟨j, hj, rfl⟩ := nI_of h
    by_cases h2 : j < n
    · exact Or.inr (Or.inr ⟨j, h2, rfl⟩)
    · exact Or.inr (Or.inl (nI_le (by omega) hj))
theorem pk_le {x y : Int32} {A B : Prop} (a b : Nat) (f : a ≤ b → A) (g : b < a → B) (hx : x = nI a := by rfl) (hy : y = nI b := by rfl) (ha : a < 2 ^ 31 := by omega) (hb : b < 2 ^ 31 := by omega) : (x ≤ y → A) ∧ (¬ x ≤ y → B) := by
  subst hx hy
  rw [nI_leI ha hb]
  exact ⟨f, fun z => g (by omega)⟩
theorem pk_lt {x y : Int32} {A B : Prop} (a b : Nat) (f : a < b → A) (g : b ≤ a → B) (hx : x = nI a := by rfl) (hy : y = nI b := by rfl) (ha : a < 2 ^ 31 := by omega) (hb : b < 2 ^ 31 := by omega) : (x < y → A) ∧ (¬ x < y → B) := by
  subst hx hy
  rw [nI_ltI ha hb]
  exact ⟨f, fun z => g (by omega)⟩
theorem pk_eq {x y : Int32} {A B : Prop} (a b : Nat) (f : a = b → A) (g : a ≠ b → B) (hx : x = nI a := by rfl) (hy : y = nI b := by rfl) (ha : a < 2 ^ 31 := by omega) (hb : b < 2 ^ 31 := by omega) : (x = y → A) ∧ (¬ x = y → B) := by
  subst hx hy
  rw [nI_eq ha hb]
  exact ⟨f, g⟩
theorem pk_in {x : Int32} (n N : Nat) (h : n < N) (hx : x = nI n := by rfl) (hN : N < 2 ^ 31 := by omega) : vp_in x N := by
  subst hx
  exact vp_in_nI h hN
theorem pk_cl {x : Int32} (n : Nat) (hx : x = nI n := by rfl) (h : n < 2 ^ 31 := by omega) : x.toNatClampNeg = n := by
  subst hx
  exact nI_clamp h
def bt (x : Int32) (i : Nat) : Bool := x.toBitVec.getLsbD i
theorem b_ext {x y : Int32} (h : ∀ i, i < 32 → bt x i = bt y i) : x = y := Int32.toBitVec_inj.mp (BitVec.eq_of_getLsbD_eq (fun i hi => h i hi))
theorem b_or (x y : Int32) (i : Nat) : bt (x ||| y) i = (bt x i || bt y i) := by unfold bt; rw [Int32.toBitVec_or, BitVec.getLsbD_or]
theorem b_and (x y : Int32) (i : Nat) : bt (x &&& y) i = (bt x i && bt y i) := by unfold bt; rw [Int32.toBitVec_and, BitVec.getLsbD_and]
theorem b_xor (x y : Int32) (i : Nat) : bt (x ^^^ y) i = (bt x i ^^ bt y i) := by unfold bt; rw [Int32.toBitVec_xor, BitVec.getLsbD_xor]
theorem b_big {x : Int32} {i : Nat} (h : 32 ≤ i) : bt x i = false := BitVec.getLsbD_of_ge _ _ h
theorem b_m1 : ∀ i, i < 32 → bt (-1) i = true := by decide +kernel
theorem b_0 (i : Nat) : bt 0 i = false := BitVec.getLsbD_zero
theorem s_l : ∀ n, n < 32 → ((nI n &&& 31).toBitVec.smod 32).toNat = n := by decide +kernel
theorem b_shl (n : Nat) (hn : n < 32) (x : Int32) {i : Nat} (hi : i < 32) : bt (x <<< (nI n &&& 31)) i = (decide (n ≤ i) && bt x (i - n)) := by
  unfold bt
  rw [Int32.toBitVec_shiftLeft]
  show (x.toBitVec <<< ((nI n &&& 31).toBitVec.smod 32).toNat).getLsbD i = _
  rw [s_l n hn, BitVec.getLsbD_shiftLeft]
  rcases Nat.lt_or_ge i n with h | h
  · simp [h, Nat.not_le.mpr h]
  · simp [hi, h, Nat.not_lt.mpr h]
theorem b_sshr (n : Nat) (hn : n < 32) (x : Int32) {i : Nat} (hi : i < 32) : bt (x >>> (nI n &&& 31)) i = if n + i < 32 then bt x (n + i) else bt x 31 := by
  unfold bt
  rw [Int32.toBitVec_shiftRight]
  show (x.toBitVec.sshiftRight ((nI n &&& 31).toBitVec.smod 32).toNat).getLsbD i = _
  rw [s_l n hn, BitVec.getLsbD_sshiftRight, BitVec.msb_eq_getLsbD_last]
  simp [hi]
end
section
/-! pure: versions in cells, the best one of a key at a time, counts, the pigeonhole -/
/-- a time lies in one of the first g gaps -/
def pq_Mk (g : Nat) (gl gh : Nat → Int32) (t : Int) : Prop := ∃ j, j < g ∧ (gl j).toInt < t ∧ t ≤ (gh j).toInt
/-- a cell that counts: used, its time in no gap -/
def pq_lv (us tm : Nat → Int32) (g : Nat) (gl gh : Nat → Int32) (i : Nat) : Prop := us i ≠ 0 ∧ ¬ pq_Mk g gl gh (tm i).toInt
def pq_cd (lv : Nat → Prop) (ky tm : Nat → Int32) (k : Int32) (T : Int) (j : Nat) : Prop := j < 64 ∧ lv j ∧ ky j = k ∧ (tm j).toInt ≤ T
def pq_bst (lv : Nat → Prop) (ky tm : Nat → Int32) (k : Int32) (T : Int) (i : Nat) : Prop := pq_cd lv ky tm k T i ∧ ∀ j, pq_cd lv ky tm k T j → (tm j).toInt ≤ (tm i).toInt
def pq_at (lv : Nat → Prop) (ky tm va : Nat → Int32) (k : Int32) (T : Int) (v : Int32) : Prop := (∃ i, pq_bst lv ky tm k T i ∧ va i = v) ∨ ((∀ j, ¬ pq_cd lv ky tm k T j) ∧ v = 0)
/-- no two cells of one key and one time -/
def pq_Uq (P : Nat → Prop) (ky tm : Nat → Int32) : Prop := ∀ i j, i < 64 → j < 64 → P i → P j → ky i = ky j → tm i = tm j → i = j

theorem pq_at_ext {lv lv' : Nat → Prop} {ky ky' tm tm' va va' : Nat → Int32} {k k' : Int32} {T T' : Int} {v : Int32} (h : ∀ j, pq_cd lv ky tm k T j ↔ pq_cd lv' ky' tm' k' T' j) (e : ∀ j, pq_cd lv ky tm k T j → tm' j = tm j ∧ va' j = va j) (a : pq_at lv ky tm va k T v) : pq_at lv' ky' tm' va' k' T' v := by
  rcases a with ⟨i, ⟨ci, mi⟩, ev⟩ | ⟨no, ev⟩
  · refine Or.inl ⟨i, ⟨(h i).1 ci, fun j cj => ?_⟩, (e i ci).2.trans ev⟩
    have cj' := (h j).2 cj
    rw [(e j cj').1, (e i ci).1]
    exact mi j cj'
  · exact Or.inr ⟨fun j cj => no j ((h j).2 cj), ev⟩

theorem pq_at_sub {lv lv' : Nat → Prop} {ky tm va : Nat → Int32} {k : Int32} {T : Int} {v : Int32} (hs : ∀ j, j < 64 → lv' j → lv j) (hk : ∀ i, pq_bst lv ky tm k T i → lv' i) (a : pq_at lv ky tm va k T v) : pq_at lv' ky tm va k T v := by
  rcases a with ⟨i, b, ev⟩ | ⟨no, ev⟩
  · exact Or.inl ⟨i, ⟨⟨b.1.1, hk i b, b.1.2.2⟩, fun j cj => b.2 j ⟨cj.1, hs j cj.1 cj.2.1, cj.2.2⟩⟩, ev⟩
  · exact Or.inr ⟨fun j cj => no j ⟨cj.1, hs j cj.1 cj.2.1, cj.2.2⟩, ev⟩

theorem pq_bst_u {lv : Nat → Prop} {ky tm : Nat → Int32} {k : Int32} {T : Int} {i j : Nat} (U : pq_Uq lv ky tm) (hi : pq_bst lv ky tm k T i) (hj : pq_bst lv ky tm k T j) : i = j := by
  have h1 := hi.2 j hj.1
  have h2 := hj.2 i hi.1
  exact U i j hi.1.1 hj.1.1 hi.1.2.1 hj.1.2.1 (hi.1.2.2.1.trans hj.1.2.2.1.symm) (Int32.toInt_inj.mp (by omega))

theorem pq_at_u {lv : Nat → Prop} {ky tm va : Nat → Int32} {k : Int32} {T : Int} {v w : Int32} (U : pq_Uq lv ky tm) (hv : pq_at lv ky tm va k T v) (hw : pq_at lv ky tm va k T w) : v = w := by
  rcases hv with ⟨i, b, ev⟩ | ⟨no, ev⟩
  · rcases hw with ⟨j, c, ew⟩ | ⟨no, ew⟩
    · rw [← ev, ← ew, pq_bst_u U b c]
    · exact absurd b.1 (no i)
  · rcases hw with ⟨j, c, ew⟩ | ⟨_, ew⟩
    · exact absurd c.1 (no j)
    · rw [ev, ew]

theorem pq_mx (P : Nat → Prop) (f : Nat → Int) : ∀ n, (∃ j, j < n ∧ P j) → ∃ i, i < n ∧ P i ∧ ∀ j, j < n → P j → f j ≤ f i := by
  intro n
  induction n with
  | zero => intro h; obtain ⟨j, hj, _⟩ := h; omega
  | succ n ih =>
    intro h
    by_cases hn : ∃ j, j < n ∧ P j
    · obtain ⟨i, hi, pi, m⟩ := ih hn
      by_cases hp : P n ∧ f i < f n
      · refine ⟨n, by omega, hp.1, fun j hj pj => ?_⟩
        by_cases e : j = n
        · rw [e]; omega
        · have := m j (by omega) pj
          have := hp.2
          omega
      · refine ⟨i, by omega, pi, fun j hj pj => ?_⟩
        by_cases e : j = n
        · subst e
          have : ¬ f i < f j := fun z => hp ⟨pj, z⟩
          omega
        · exact m j (by omega) pj
    · obtain ⟨j, hj, pj⟩ := h
      have e : j = n := by
        by_cases e : j = n
        · exact e
        · exact absurd ⟨j, by omega, pj⟩ hn
      subst e
      refine ⟨j, by omega, pj, fun q hq pq => ?_⟩
      by_cases e : q = j
      · rw [e]; omega
      · exact absurd ⟨q, by omega, pq⟩ hn

theorem pq_best {lv : Nat → Prop} {ky tm : Nat → Int32} {k : Int32} {T : Int} {j : Nat} (h : pq_cd lv ky tm k T j) : ∃ i, pq_bst lv ky tm k T i := by
  obtain ⟨i, hi, ci, m⟩ := pq_mx (pq_cd lv ky tm k T) (fun j => (tm j).toInt) 64 ⟨j, h.1, h⟩
  exact ⟨i, ci, fun q cq => m q cq.1 cq⟩

/-- fewer cells, the bests kept: then the bests are the same -/
theorem pq_bst_iff {lv lv' : Nat → Prop} {ky tm : Nat → Int32} {k : Int32} {T : Int} (hs : ∀ j, j < 64 → lv' j → lv j) (hk : ∀ i, pq_bst lv ky tm k T i → lv' i) (i : Nat) : pq_bst lv' ky tm k T i ↔ pq_bst lv ky tm k T i := by
  constructor
  · intro b
    have c : pq_cd lv ky tm k T i := ⟨b.1.1, hs i b.1.1 b.1.2.1, b.1.2.2⟩
    refine ⟨c, fun j cj => ?_⟩
    obtain ⟨q, bq⟩ := pq_best cj
    have h1 := bq.2 j cj
    have h2 := b.2 q ⟨bq.1.1, hk q bq, bq.1.2.2⟩
    omega
  · intro b
    exact ⟨⟨b.1.1, hk i b, b.1.2.2⟩, fun j cj => b.2 j ⟨cj.1, hs j cj.1 cj.2.1, cj.2.2⟩⟩

/-! counts -/
noncomputable def pq_b (p : Prop) : Nat := @ite Nat p (Classical.propDecidable p) 1 0
theorem pq_b1 {p : Prop} (h : p) : pq_b p = 1 := if_pos h
theorem pq_b0 {p : Prop} (h : ¬ p) : pq_b p = 0 := if_neg h
theorem pq_b_le (p : Prop) : pq_b p ≤ 1 := by
  by_cases h : p
  · rw [pq_b1 h]; omega
  · rw [pq_b0 h]; omega
theorem pq_b_mono {p q : Prop} (h : p → q) : pq_b p ≤ pq_b q := by
  by_cases hp : p
  · rw [pq_b1 hp, pq_b1 (h hp)]; omega
  · rw [pq_b0 hp]; omega
noncomputable def pq_cn (P : Nat → Prop) : Nat → Nat
  | 0 => 0
  | n + 1 => pq_cn P n + pq_b (P n)
theorem pq_cn_le {P Q : Nat → Prop} : ∀ n, (∀ j, j < n → P j → Q j) → pq_cn P n ≤ pq_cn Q n := by
  intro n
  induction n with
  | zero => intro _; exact Nat.le_refl _
  | succ n ih =>
    intro h
    have h1 := ih (fun j hj => h j (by omega))
    have h2 := pq_b_mono (h n (by omega))
    show pq_cn P n + pq_b (P n) ≤ pq_cn Q n + pq_b (Q n)
    omega
theorem pq_cn_lt {P Q : Nat → Prop} {i : Nat} : ∀ n, (∀ j, j < n → P j → Q j) → i < n → Q i → ¬ P i → pq_cn P n + 1 ≤ pq_cn Q n := by
  intro n
  induction n with
  | zero => intro _ h; omega
  | succ n ih =>
    intro h hi hq hp
    show pq_cn P n + pq_b (P n) + 1 ≤ pq_cn Q n + pq_b (Q n)
    by_cases e : i = n
    · subst e
      have h1 := pq_cn_le i (fun j hj => h j (by omega))
      rw [pq_b0 hp, pq_b1 hq]
      omega
    · have h1 := ih (fun j hj => h j (by omega)) (by omega) hq hp
      have h2 := pq_b_mono (h n (by omega))
      omega
theorem pq_cn_add {P Q : Nat → Prop} {i : Nat} : ∀ n, (∀ j, j < n → j ≠ i → P j → Q j) → pq_cn P n ≤ pq_cn Q n + 1 := by
  intro n
  induction n with
  | zero => intro _; exact Nat.zero_le _
  | succ n ih =>
    intro h
    show pq_cn P n + pq_b (P n) ≤ pq_cn Q n + pq_b (Q n) + 1
    by_cases e : i = n
    · subst e
      have h1 := pq_cn_le i (fun j hj => h j (by omega) (by omega))
      have h2 := pq_b_le (P i)
      omega
    · have h1 := ih (fun j hj => h j (by omega))
      have h2 := pq_b_mono (h n (by omega) (by omega))
      omega
theorem pq_cn_pos {P : Nat → Prop} {i : Nat} : ∀ n, i < n → P i → 1 ≤ pq_cn P n := by
  intro n
  induction n with
  | zero => intro h; omega
  | succ n ih =>
    intro hi hp
    show 1 ≤ pq_cn P n + pq_b (P n)
    by_cases e : i = n
    · subst e
      rw [pq_b1 hp]; omega
    · have := ih (by omega) hp
      omega
theorem pq_cn_0 {P : Nat → Prop} : ∀ n, (∀ j, j < n → ¬ P j) → pq_cn P n = 0 := by
  intro n
  induction n with
  | zero => intro _; rfl
  | succ n ih =>
    intro h
    show pq_cn P n + pq_b (P n) = 0
    rw [ih (fun j hj => h j (by omega)), pq_b0 (h n (by omega))]

/-! n numbers below n are no fewer than n -/
theorem pq_cov : ∀ (n : Nat) (l : List Nat), (∀ i, i < n → i ∈ l) → n ≤ l.length := by
  intro n
  induction n with
  | zero => intro l _; exact Nat.zero_le _
  | succ n ih =>
    intro l h
    have hn : n ∈ l := h n (by omega)
    have h1 := ih (l.erase n) (fun i hi => (List.mem_erase_of_ne (by omega)).mpr (h i (by omega)))
    rw [List.length_erase_of_mem hn] at h1
    have h2 : 0 < l.length := List.length_pos_of_mem hn
    omega
theorem pq_full {lv : Nat → Prop} {ky tm : Nat → Int32} (U : pq_Uq lv ky tm) (Tt : Nat → Int) (h : ∀ i, i < 64 → ∃ κ, κ < 8 ∧ ∃ τ, τ < 7 ∧ pq_bst lv ky tm (nI κ) (Tt τ) i) : False := by
  have c := pq_cov 64 ((List.range 56).map (fun m => Classical.epsilon (fun i => pq_bst lv ky tm (nI (m / 7)) (Tt (m % 7)) i))) (fun i hi => by
    obtain ⟨κ, hκ, τ, hτ, b⟩ := h i hi
    refine List.mem_map.mpr ⟨κ * 7 + τ, List.mem_range.mpr (by omega), ?_⟩
    have e1 : (κ * 7 + τ) / 7 = κ := by omega
    have e2 : (κ * 7 + τ) % 7 = τ := by omega
    rw [e1, e2]
    exact pq_bst_u U (Classical.epsilon_spec (p := fun i => pq_bst lv ky tm (nI κ) (Tt τ) i) ⟨i, b⟩) b)
  rw [List.length_map, List.length_range] at c
  omega

/-! the scan for the best -/
def pq_sc (C : Nat → Prop) (f : Nat → Int) (i : Nat) (b : Int32) : Prop := (b = -1 ∧ ∀ j, j < i → ¬ C j) ∨ ∃ m, m < i ∧ b = nI m ∧ C m ∧ ∀ j, j < i → C j → f j ≤ f m
theorem pq_sc_n {C : Nat → Prop} {f : Nat → Int} {i : Nat} {b : Int32} (h : pq_sc C f i b) (hi : ¬ C i) : pq_sc C f (i + 1) b := by
  rcases h with ⟨e, no⟩ | ⟨m, hm, e, cm, mx⟩
  · refine Or.inl ⟨e, fun j hj cj => ?_⟩
    by_cases ej : j = i
    · subst ej; exact hi cj
    · exact no j (by omega) cj
  · refine Or.inr ⟨m, by omega, e, cm, fun j hj cj => ?_⟩
    by_cases ej : j = i
    · subst ej; exact absurd cj hi
    · exact mx j (by omega) cj
theorem pq_sc_1 {C : Nat → Prop} {f : Nat → Int} {i : Nat} (no : ∀ j, j < i → ¬ C j) (ci : C i) : pq_sc C f (i + 1) (nI i) := by
  refine Or.inr ⟨i, by omega, rfl, ci, fun j hj cj => ?_⟩
  by_cases ej : j = i
  · subst ej; omega
  · exact absurd cj (no j (by omega))
theorem pq_sc_k {C : Nat → Prop} {f : Nat → Int} {i m : Nat} (hm : m < i) (cm : C m) (mx : ∀ j, j < i → C j → f j ≤ f m) (h : f i ≤ f m) : pq_sc C f (i + 1) (nI m) := by
  refine Or.inr ⟨m, by omega, rfl, cm, fun j hj cj => ?_⟩
  by_cases ej : j = i
  · subst ej; exact h
  · exact mx j (by omega) cj
theorem pq_sc_r {C : Nat → Prop} {f : Nat → Int} {i m : Nat} (ci : C i) (mx : ∀ j, j < i → C j → f j ≤ f m) (h : f m ≤ f i) : pq_sc C f (i + 1) (nI i) := by
  refine Or.inr ⟨i, by omega, rfl, ci, fun j hj cj => ?_⟩
  by_cases ej : j = i
  · subst ej; omega
  · have := mx j (by omega) cj
    omega

/-! bits -/
theorem xb_one : ∀ i, i < 32 → bt 1 i = decide (i = 0) := by decide +kernel
theorem xb_e (x : Int32) (t : Nat) (ht : t < 32) : (x >>> (nI t &&& 31)) &&& 1 = if bt x t = true then 1 else 0 := by
  apply b_ext
  intro i hi
  rw [b_and, b_sshr t ht x hi, xb_one i hi]
  by_cases h0 : i = 0
  · subst h0
    rw [Nat.add_zero, if_pos ht]
    cases bt x t
    · rw [if_neg (by decide), b_0]; rfl
    · rw [if_pos rfl]; rfl
  · rw [decide_eq_false h0, Bool.and_false]
    cases bt x t
    · rw [if_neg (by decide), b_0]
    · rw [if_pos rfl, xb_one i hi, decide_eq_false h0]
theorem xb_f {x : Int32} {t : Nat} (ht : t < 32) (h : bt x t = false) : (x >>> (nI t &&& 31)) &&& 1 = 0 := by
  rw [xb_e x t ht, h]; rfl
theorem xb_t {x : Int32} {t : Nat} (ht : t < 32) (h : bt x t = true) : (x >>> (nI t &&& 31)) &&& 1 = 1 := by
  rw [xb_e x t ht, h]; rfl
theorem xb_tn {x : Int32} {t : Nat} (ht : t < 32) (h : bt x t = true) : ¬ (x >>> (nI t &&& 31)) &&& 1 = 0 := by
  rw [xb_t ht h]; decide
theorem xb_fn {x : Int32} {t : Nat} (ht : t < 32) (h : bt x t = false) : ¬ (x >>> (nI t &&& 31)) &&& 1 = 1 := by
  rw [xb_f ht h]; decide
theorem xb_sl {t i : Nat} (ht : t < 32) (hi : i < 32) : bt ((1 : Int32) <<< (nI t &&& 31)) i = decide (i = t) := by
  rw [b_shl t ht 1 hi]
  by_cases h : t ≤ i
  · rw [decide_eq_true h, Bool.true_and, xb_one (i - t) (by omega)]
    by_cases e : i = t
    · rw [decide_eq_true e, decide_eq_true (by omega)]
    · rw [decide_eq_false e, decide_eq_false (by omega)]
  · rw [decide_eq_false h, Bool.false_and, decide_eq_false (by omega)]
theorem xb_or {x : Int32} {t i : Nat} (ht : t < 32) (hi : i < 32) : bt (x ||| ((1 : Int32) <<< (nI t &&& 31))) i = (bt x i || decide (i = t)) := by
  rw [b_or, xb_sl ht hi]
theorem xb_clr {x : Int32} {t i : Nat} (ht : t < 32) (hi : i < 32) : bt (x &&& (((1 : Int32) <<< (nI t &&& 31)) ^^^ (-1))) i = (bt x i && !decide (i = t)) := by
  rw [b_and, b_xor, xb_sl ht hi, b_m1 i hi, Bool.xor_true]
end
section
/-! walks of the component's readers -/
/-- the times that a reader may still ask for -/
def pq_nt (la sa se : Int32) (st : Prop) (op : Nat → Prop) (bg : Nat → Int32) (T : Int) : Prop := T = sa.toInt ∨ T = la.toInt ∨ (st ∧ T = se.toInt) ∨ ∃ t, t < 4 ∧ op t ∧ T = (bg t).toInt
theorem xw_m1 {i : Nat} (h : i < 2 ^ 31) : ¬ (-1 : Int32) = nI i := by
  intro e
  have h1 := congrArg Int32.toInt e
  rw [nI_toInt h, show (-1 : Int32).toInt = -1 from by decide] at h1
  omega
theorem xw_m1n : (-1 : Int32) < 0 := by decide
theorem xw_m1p : ¬ (0 : Int32) ≤ -1 := by decide
theorem pq_Uq_sub {P Q : Nat → Prop} {ky tm : Nat → Int32} (h : ∀ j, Q j → P j) (U : pq_Uq P ky tm) : pq_Uq Q ky tm := fun i j hi hj a b => U i j hi hj (h i a) (h j b)
section
variable {f_gaps f_lastTime f_safeTime f_sealTime f_steps f_waitingWrites f_commitCount f_sealCount f_safeCount f_openSet : Int32} {a_used a_keyOf a_timeOf a_valueOf a_through a_gapLow a_gapHigh a_beganAt a_wrote a_draft : Nat → Int32}
theorem xw_isKey_o {post : Int32 → Prop} {p0 : Int32} (h : p0 < 0 ∨ nI 8 ≤ p0) (hp : post 0) : wpX_isKey post p0 := by
  unfold wpX_isKey
  by_cases h0 : p0 < 0
  · exact br_t h0 hp
  · exact br_f h0 (br_t (h.resolve_left h0) hp)
theorem xw_isKey_k {post : Int32 → Prop} {κ : Nat} (h : κ < 8) (hp : post 1) : wpX_isKey post (nI κ) := by
  unfold wpX_isKey
  exact br_f (nI_pos (by omega)) (br_f (nI_ge (b := 8) h (by decide)) hp)
theorem xw_open_o {post : Int32 → Prop} {p0 : Int32} (h : p0 < 0 ∨ nI 4 ≤ p0) (hp : post 0) : wpX_isOpen post (f_gaps, f_lastTime, f_safeTime, f_sealTime, f_steps, f_waitingWrites, f_commitCount, f_sealCount, f_safeCount, f_openSet, a_used, a_keyOf, a_timeOf, a_valueOf, a_through, a_gapLow, a_gapHigh, a_beganAt, a_wrote, a_draft) p0 := by
  unfold wpX_isOpen
  by_cases h0 : p0 < 0
  · exact br_t h0 hp
  · exact br_f h0 (br_t (h.resolve_left h0) hp)
theorem xw_open_f {post : Int32 → Prop} {t : Nat} (ht : t < 4) (h : bt f_openSet t = false) (hp : post 0) : wpX_isOpen post (f_gaps, f_lastTime, f_safeTime, f_sealTime, f_steps, f_waitingWrites, f_commitCount, f_sealCount, f_safeCount, f_openSet, a_used, a_keyOf, a_timeOf, a_valueOf, a_through, a_gapLow, a_gapHigh, a_beganAt, a_wrote, a_draft) (nI t) := by
  unfold wpX_isOpen
  exact br_f (nI_pos (by omega)) (br_f (nI_ge (b := 4) ht (by decide)) (br_t (xb_f (by omega) h) hp))
theorem xw_open_t {post : Int32 → Prop} {t : Nat} (ht : t < 4) (h : bt f_openSet t = true) (hp : post 1) : wpX_isOpen post (f_gaps, f_lastTime, f_safeTime, f_sealTime, f_steps, f_waitingWrites, f_commitCount, f_sealCount, f_safeCount, f_openSet, a_used, a_keyOf, a_timeOf, a_valueOf, a_through, a_gapLow, a_gapHigh, a_beganAt, a_wrote, a_draft) (nI t) := by
  unfold wpX_isOpen
  exact br_f (nI_pos (by omega)) (br_f (nI_ge (b := 4) ht (by decide)) (br_f (xb_tn (by omega) h) hp))

theorem xw_masked_l {post : Int32 → Prop} {p0 : Int32} {g : Nat} (hg : g ≤ 4) (h1 : pq_Mk g a_gapLow a_gapHigh p0.toInt → post 1) (h0 : ¬ pq_Mk g a_gapLow a_gapHigh p0.toInt → post 0) : ∀ n i, i ≤ g → g - i < n → (∀ j, j < i → ¬ ((a_gapLow j).toInt < p0.toInt ∧ p0.toInt ≤ (a_gapHigh j).toInt)) → wX_masked_2 post p0 (nI g) f_lastTime f_safeTime f_sealTime f_steps f_waitingWrites f_commitCount f_sealCount f_safeCount f_openSet a_used a_keyOf a_timeOf a_valueOf a_through a_gapLow a_gapHigh a_beganAt a_wrote a_draft n (nI i) := by
  intro n
  induction n with
  | zero => intro i _ h; omega
  | succ n ih =>
    intro i hi hn hj
    rw [wX_masked_2]
    refine pk_le g i (fun h => ?_) (fun h => ?_)
    · exact h0 (fun ⟨j, hjg, hm⟩ => hj j (by omega) hm)
    · have hv : vp_in (nI i) 4 := vp_in_nI (by omega) (by omega)
      have hc : (nI i).toNatClampNeg = i := nI_clamp (by omega)
      refine ⟨hv, ?_⟩
      rw [hc]
      have nx : ¬ ((a_gapLow i).toInt < p0.toInt ∧ p0.toInt ≤ (a_gapHigh i).toInt) → ∀ x, x = nI i + 1 → wX_masked_2 post p0 (nI g) f_lastTime f_safeTime f_sealTime f_steps f_waitingWrites f_commitCount f_sealCount f_safeCount f_openSet a_used a_keyOf a_timeOf a_valueOf a_through a_gapLow a_gapHigh a_beganAt a_wrote a_draft n x := by
        intro hni x hx
        rw [hx, nI_1]
        refine ih (i + 1) (by omega) (by omega) (fun j hj1 => ?_)
        by_cases e : j = i
        · rw [e]; exact hni
        · exact hj j (by omega)
      refine br_c (fun hl => nx ?_) (fun hl => ⟨hv, br_c (fun hh => nx ?_) (fun hh => h1 ?_)⟩)
      · rw [Int32.le_iff_toInt_le] at hl; omega
      · rw [Int32.lt_iff_toInt_lt] at hh; omega
      · rw [Int32.le_iff_toInt_le] at hl
        rw [Int32.lt_iff_toInt_lt] at hh
        exact ⟨i, h, by omega, by omega⟩
theorem xw_masked {post : Int32 → Prop} {p0 : Int32} {g : Nat} (hg : g ≤ 4) (h1 : pq_Mk g a_gapLow a_gapHigh p0.toInt → post 1) (h0 : ¬ pq_Mk g a_gapLow a_gapHigh p0.toInt → post 0) : wpX_masked post (nI g, f_lastTime, f_safeTime, f_sealTime, f_steps, f_waitingWrites, f_commitCount, f_sealCount, f_safeCount, f_openSet, a_used, a_keyOf, a_timeOf, a_valueOf, a_through, a_gapLow, a_gapHigh, a_beganAt, a_wrote, a_draft) p0 := by
  unfold wpX_masked
  exact ⟨g + 1, xw_masked_l hg h1 h0 (g + 1) 0 (by omega) (by omega) (fun j hj => absurd hj (by omega))⟩

theorem xw_cellAt_l {post : Int32 → Prop} {p0 p1 : Int32} {g : Nat} (hg : g ≤ 4) (h1 : ∀ m, pq_bst (pq_lv a_used a_timeOf g a_gapLow a_gapHigh) a_keyOf a_timeOf p0 p1.toInt m → post (nI m)) (h0 : (∀ j, ¬ pq_cd (pq_lv a_used a_timeOf g a_gapLow a_gapHigh) a_keyOf a_timeOf p0 p1.toInt j) → post (-1)) : ∀ n i b, i ≤ 64 → 64 - i < n → pq_sc (pq_cd (pq_lv a_used a_timeOf g a_gapLow a_gapHigh) a_keyOf a_timeOf p0 p1.toInt) (fun j => (a_timeOf j).toInt) i b → wX_cellAt_5 post p0 p1 (nI g) f_lastTime f_safeTime f_sealTime f_steps f_waitingWrites f_commitCount f_sealCount f_safeCount f_openSet a_used a_keyOf a_timeOf a_valueOf a_through a_gapLow a_gapHigh a_beganAt a_wrote a_draft n b (nI i) := by
  intro n
  induction n with
  | zero => intro i b _ h; omega
  | succ n ih =>
    intro i b hi hn hI
    rw [wX_cellAt_5]
    refine pk_le 64 i (fun h => ?_) (fun h => ?_)
    · have e : i = 64 := by omega
      subst e
      rcases hI with ⟨e, no⟩ | ⟨m, hm, e, cm, mx⟩
      · rw [e]; exact h0 (fun j cj => no j cj.1 cj)
      · rw [e]; exact h1 m ⟨cm, fun j cj => mx j cj.1 cj⟩
    · have hv : vp_in (nI i) 64 := vp_in_nI (by omega) (by omega)
      have hc : (nI i).toNatClampNeg = i := nI_clamp (by omega)
      refine ⟨hv, ?_⟩
      rw [hc]
      have nx : ∀ b', pq_sc (pq_cd (pq_lv a_used a_timeOf g a_gapLow a_gapHigh) a_keyOf a_timeOf p0 p1.toInt) (fun j => (a_timeOf j).toInt) (i + 1) b' → ∀ x, x = nI i + 1 → wX_cellAt_5 post p0 p1 (nI g) f_lastTime f_safeTime f_sealTime f_steps f_waitingWrites f_commitCount f_sealCount f_safeCount f_openSet a_used a_keyOf a_timeOf a_valueOf a_through a_gapLow a_gapHigh a_beganAt a_wrote a_draft n b' x := by
        intro b' hb x hx
        rw [hx, nI_1]
        exact ih (i + 1) b' (by omega) (by omega) hb
      refine br_c (fun hu => nx b (pq_sc_n hI (fun c => c.2.1.1 hu))) (fun hu => ⟨hv, br_c (fun hk => ⟨hv, br_c (fun ht => nx b (pq_sc_n hI (fun c => ?_))) (fun ht => ⟨hv, ?_⟩)⟩) (fun hk => nx b (pq_sc_n hI (fun c => hk c.2.2.1)))⟩)
      · rw [Int32.lt_iff_toInt_lt] at ht
        have := c.2.2.2
        omega
      · refine xw_masked hg (fun hm => ?_) (fun hm => ?_)
        · exact br_f (by decide) (nx b (pq_sc_n hI (fun c => c.2.1.2 hm)))
        · have ci : pq_cd (pq_lv a_used a_timeOf g a_gapLow a_gapHigh) a_keyOf a_timeOf p0 p1.toInt i := by
            rw [Int32.lt_iff_toInt_lt] at ht
            exact ⟨h, ⟨hu, hm⟩, hk, by omega⟩
          refine br_t rfl ?_
          rcases hI with ⟨e, no⟩ | ⟨m, hm, e, cm, mx⟩
          · subst e
            exact br_t xw_m1n (nx (nI i) (pq_sc_1 no ci))
          · subst e
            refine br_f (nI_pos (by omega)) ⟨hv, vp_in_nI (by omega) (by omega), ?_⟩
            rw [nI_clamp (n := m) (by omega)]
            refine br_c (fun hl => nx (nI m) (pq_sc_k hm cm mx ?_)) (fun hl => nx (nI i) (pq_sc_r ci mx ?_))
            · rw [Int32.le_iff_toInt_le] at hl; exact hl
            · rw [Int32.le_iff_toInt_le] at hl
              show (a_timeOf m).toInt ≤ (a_timeOf i).toInt
              omega
theorem xw_cellAt {post : Int32 → Prop} {p0 p1 : Int32} {g : Nat} (hg : g ≤ 4) (h1 : ∀ m, pq_bst (pq_lv a_used a_timeOf g a_gapLow a_gapHigh) a_keyOf a_timeOf p0 p1.toInt m → post (nI m)) (h0 : (∀ j, ¬ pq_cd (pq_lv a_used a_timeOf g a_gapLow a_gapHigh) a_keyOf a_timeOf p0 p1.toInt j) → post (-1)) : wpX_cellAt post (nI g, f_lastTime, f_safeTime, f_sealTime, f_steps, f_waitingWrites, f_commitCount, f_sealCount, f_safeCount, f_openSet, a_used, a_keyOf, a_timeOf, a_valueOf, a_through, a_gapLow, a_gapHigh, a_beganAt, a_wrote, a_draft) p0 p1 := by
  unfold wpX_cellAt
  exact ⟨65, xw_cellAt_l hg h1 h0 65 0 (-1) (by omega) (by omega) (Or.inl ⟨rfl, fun j hj => absurd hj (by omega)⟩)⟩

theorem xw_valueAt {post : Int32 → Prop} {p0 p1 v : Int32} {g : Nat} (hg : g ≤ 4) (U : pq_Uq (fun i => a_used i ≠ 0) a_keyOf a_timeOf) (a : pq_at (pq_lv a_used a_timeOf g a_gapLow a_gapHigh) a_keyOf a_timeOf a_valueOf p0 p1.toInt v) (hp : post v) : wpX_valueAt post (nI g, f_lastTime, f_safeTime, f_sealTime, f_steps, f_waitingWrites, f_commitCount, f_sealCount, f_safeCount, f_openSet, a_used, a_keyOf, a_timeOf, a_valueOf, a_through, a_gapLow, a_gapHigh, a_beganAt, a_wrote, a_draft) p0 p1 := by
  have U' : pq_Uq (pq_lv a_used a_timeOf g a_gapLow a_gapHigh) a_keyOf a_timeOf := pq_Uq_sub (fun j h => h.1) U
  unfold wpX_valueAt
  refine xw_cellAt hg (fun m b => ?_) (fun no => ?_)
  · have hm : m < 64 := b.1.1
    refine br_t (nI_pos' (by omega)) ⟨vp_in_nI hm (by omega), ?_⟩
    rw [nI_clamp (n := m) (by omega), pq_at_u U' (Or.inl ⟨m, b, rfl⟩) a]
    exact hp
  · refine br_f xw_m1p ?_
    rw [pq_at_u U' (Or.inr ⟨no, rfl⟩) a]
    exact hp

theorem xw_freeCell_l {post : Int32 → Prop} (h1 : ∀ i, i < 64 → a_used i = 0 → post (nI i)) (h0 : (∀ i, i < 64 → a_used i ≠ 0) → post (-1)) : ∀ n i, i ≤ 64 → 64 - i < n → (∀ j, j < i → a_used j ≠ 0) → wX_freeCell_2 post f_gaps f_lastTime f_safeTime f_sealTime f_steps f_waitingWrites f_commitCount f_sealCount f_safeCount f_openSet a_used a_keyOf a_timeOf a_valueOf a_through a_gapLow a_gapHigh a_beganAt a_wrote a_draft n (nI i) := by
  intro n
  induction n with
  | zero => intro i _ h; omega
  | succ n ih =>
    intro i hi hn hj
    rw [wX_freeCell_2]
    refine pk_le 64 i (fun h => ?_) (fun h => ?_)
    · exact h0 (fun j hj64 => hj j (by omega))
    · have hv : vp_in (nI i) 64 := vp_in_nI (by omega) (by omega)
      have hc : (nI i).toNatClampNeg = i := nI_clamp (by omega)
      refine ⟨hv, ?_⟩
      rw [hc]
      refine br_c (fun hu => h1 i h hu) (fun hu x hx => ?_)
      rw [hx, nI_1]
      refine ih (i + 1) (by omega) (by omega) (fun j hj1 => ?_)
      by_cases e : j = i
      · rw [e]; exact hu
      · exact hj j (by omega)
theorem xw_freeCell {post : Int32 → Prop} (h1 : ∀ i, i < 64 → a_used i = 0 → post (nI i)) (h0 : (∀ i, i < 64 → a_used i ≠ 0) → post (-1)) : wpX_freeCell post (f_gaps, f_lastTime, f_safeTime, f_sealTime, f_steps, f_waitingWrites, f_commitCount, f_sealCount, f_safeCount, f_openSet, a_used, a_keyOf, a_timeOf, a_valueOf, a_through, a_gapLow, a_gapHigh, a_beganAt, a_wrote, a_draft) := by
  unfold wpX_freeCell
  exact ⟨65, xw_freeCell_l h1 h0 65 0 (by omega) (by omega) (fun j hj => absurd hj (by omega))⟩

/-- is cell i the best of its key at a time? -/
theorem xw_eq {A B : Prop} {p0 p1 : Int32} {g i : Nat} (hg : g ≤ 4) (hi : i < 64) (U : pq_Uq (pq_lv a_used a_timeOf g a_gapLow a_gapHigh) a_keyOf a_timeOf) (h1 : pq_bst (pq_lv a_used a_timeOf g a_gapLow a_gapHigh) a_keyOf a_timeOf p0 p1.toInt i → A) (h0 : ¬ pq_bst (pq_lv a_used a_timeOf g a_gapLow a_gapHigh) a_keyOf a_timeOf p0 p1.toInt i → B) : wpX_cellAt (fun r => (r = nI i → A) ∧ (¬ r = nI i → B)) (nI g, f_lastTime, f_safeTime, f_sealTime, f_steps, f_waitingWrites, f_commitCount, f_sealCount, f_safeCount, f_openSet, a_used, a_keyOf, a_timeOf, a_valueOf, a_through, a_gapLow, a_gapHigh, a_beganAt, a_wrote, a_draft) p0 p1 := by
  refine xw_cellAt hg (fun m b => ?_) (fun no => ?_)
  · by_cases e : m = i
    · subst e
      exact br_t rfl (h1 b)
    · refine br_f (fun z => e ((nI_eq ?_ (by omega)).mp z)) (h0 (fun b' => e (pq_bst_u U b b')))
      have := b.1.1
      omega
  · exact br_f (xw_m1 (by omega)) (h0 (fun b => no i b.1))

theorem xw_needed_l {post : Int32 → Prop} {k : Int32} {g i : Nat} (hg : g ≤ 4) (hi : i < 64) (U : pq_Uq (pq_lv a_used a_timeOf g a_gapLow a_gapHigh) a_keyOf a_timeOf) (h1 : (∃ t, t < 4 ∧ bt f_openSet t = true ∧ pq_bst (pq_lv a_used a_timeOf g a_gapLow a_gapHigh) a_keyOf a_timeOf k (a_beganAt t).toInt i) → post 1) (h0 : (¬ ∃ t, t < 4 ∧ bt f_openSet t = true ∧ pq_bst (pq_lv a_used a_timeOf g a_gapLow a_gapHigh) a_keyOf a_timeOf k (a_beganAt t).toInt i) → post 0) : ∀ n t, t ≤ 4 → 4 - t < n → (∀ s, s < t → ¬ (bt f_openSet s = true ∧ pq_bst (pq_lv a_used a_timeOf g a_gapLow a_gapHigh) a_keyOf a_timeOf k (a_beganAt s).toInt i)) → wX_needed_74 post (nI i) k (nI g) f_lastTime f_safeTime f_sealTime f_steps f_waitingWrites f_commitCount f_sealCount f_safeCount f_openSet a_used a_keyOf a_timeOf a_valueOf a_through a_gapLow a_gapHigh a_beganAt a_wrote a_draft n (nI t) := by
  intro n
  induction n with
  | zero => intro t _ h; omega
  | succ n ih =>
    intro t ht hn hs
    rw [wX_needed_74]
    refine pk_le 4 t (fun h => ?_) (fun h => ?_)
    · exact h0 (fun ⟨s, hs4, hm⟩ => hs s (by omega) hm)
    · have nx : ¬ (bt f_openSet t = true ∧ pq_bst (pq_lv a_used a_timeOf g a_gapLow a_gapHigh) a_keyOf a_timeOf k (a_beganAt t).toInt i) → ∀ x, x = nI t + 1 → wX_needed_74 post (nI i) k (nI g) f_lastTime f_safeTime f_sealTime f_steps f_waitingWrites f_commitCount f_sealCount f_safeCount f_openSet a_used a_keyOf a_timeOf a_valueOf a_through a_gapLow a_gapHigh a_beganAt a_wrote a_draft n x := by
        intro hni x hx
        rw [hx, nI_1]
        refine ih (t + 1) (by omega) (by omega) (fun j hj1 => ?_)
        by_cases e : j = t
        · rw [e]; exact hni
        · exact hs j (by omega)
      by_cases ho : bt f_openSet t = true
      · refine xw_open_t h ho (br_f (by decide) ⟨vp_in_nI h (by omega), ?_⟩)
        rw [nI_clamp (n := t) (by omega)]
        exact xw_eq hg hi U (fun b => h1 ⟨t, h, ho, b⟩) (fun b => nx (fun z => b z.2))
      · refine xw_open_f h (by simpa using ho) (br_t rfl (nx (fun z => ho z.1)))

theorem xw_needed {post : Int32 → Prop} {g i : Nat} (hg : g ≤ 4) (hi : i < 64) (hu : a_used i ≠ 0) (U : pq_Uq (pq_lv a_used a_timeOf g a_gapLow a_gapHigh) a_keyOf a_timeOf) (h1 : (∃ T, pq_nt f_lastTime f_safeTime f_sealTime (¬ f_steps ≤ 0) (fun t => bt f_openSet t = true) a_beganAt T ∧ pq_bst (pq_lv a_used a_timeOf g a_gapLow a_gapHigh) a_keyOf a_timeOf (a_keyOf i) T i) → post 1) (h0 : (¬ ∃ T, pq_nt f_lastTime f_safeTime f_sealTime (¬ f_steps ≤ 0) (fun t => bt f_openSet t = true) a_beganAt T ∧ pq_bst (pq_lv a_used a_timeOf g a_gapLow a_gapHigh) a_keyOf a_timeOf (a_keyOf i) T i) → post 0) : wpX_needed post (nI g, f_lastTime, f_safeTime, f_sealTime, f_steps, f_waitingWrites, f_commitCount, f_sealCount, f_safeCount, f_openSet, a_used, a_keyOf, a_timeOf, a_valueOf, a_through, a_gapLow, a_gapHigh, a_beganAt, a_wrote, a_draft) (nI i) := by
  unfold wpX_needed
  have hv : vp_in (nI i) 64 := vp_in_nI hi (by omega)
  have hc : (nI i).toNatClampNeg = i := nI_clamp (by omega)
  refine ⟨hv, ?_⟩
  rw [hc]
  refine xw_masked hg (fun hm => ?_) (fun hm => ?_)
  · exact br_f (by decide) (h0 (fun ⟨T, _, b⟩ => b.1.2.1.2 hm))
  · refine br_t rfl ⟨hv, nm_e ?_⟩
    refine xw_eq hg hi U (fun b => h1 ⟨_, Or.inl rfl, b⟩) (fun b1 => ?_)
    refine xw_eq hg hi U (fun b => h1 ⟨_, Or.inr (Or.inl rfl), b⟩) (fun b2 => ?_)
    have lp : (¬ f_steps ≤ 0 → ¬ pq_bst (pq_lv a_used a_timeOf g a_gapLow a_gapHigh) a_keyOf a_timeOf (a_keyOf i) f_sealTime.toInt i) → ∃ n74 : Nat, wX_needed_74 post (nI i) (a_keyOf i) (nI g) f_lastTime f_safeTime f_sealTime f_steps f_waitingWrites f_commitCount f_sealCount f_safeCount f_openSet a_used a_keyOf a_timeOf a_valueOf a_through a_gapLow a_gapHigh a_beganAt a_wrote a_draft n74 0 := by
      intro b3
      refine ⟨5, xw_needed_l hg hi U (fun ⟨t, ht, ho, b⟩ => h1 ⟨_, Or.inr (Or.inr (Or.inr ⟨t, ht, ho, rfl⟩)), b⟩) (fun no => h0 ?_) 5 0 (by omega) (by omega) (fun s hs => absurd hs (by omega))⟩
      rintro ⟨T, hT, b⟩
      rcases hT with e | e | ⟨hst, e⟩ | ⟨t, ht, ho, e⟩
      · subst e; exact b1 b
      · subst e; exact b2 b
      · subst e; exact b3 hst b
      · subst e; exact no ⟨t, ht, ho, b⟩
    refine br_c (fun hs => lp (fun z => absurd hs z)) (fun hs => ?_)
    exact xw_eq hg hi U (fun b => h1 ⟨_, Or.inr (Or.inr (Or.inl ⟨hs, rfl⟩)), b⟩) (fun b3 => lp (fun _ => b3))

theorem xw_changed_l {post : Int32 → Prop} {T S : Int32} {g : Nat} (hg : g ≤ 4) (hS : ∀ κ, κ < 8 → (bt S κ = true ↔ ∃ i, pq_bst (pq_lv a_used a_timeOf g a_gapLow a_gapHigh) a_keyOf a_timeOf (nI κ) f_lastTime.toInt i ∧ T.toInt < (a_timeOf i).toInt)) (hS8 : ∀ κ, 8 ≤ κ → κ < 32 → bt S κ = false) (hp : post S) : ∀ n i x, i ≤ 8 → 8 - i < n → (∀ κ, κ < 32 → bt x κ = (bt S κ && decide (κ < i))) → wX_changedSince_4 post T (nI g) f_lastTime f_safeTime f_sealTime f_steps f_waitingWrites f_commitCount f_sealCount f_safeCount f_openSet a_used a_keyOf a_timeOf a_valueOf a_through a_gapLow a_gapHigh a_beganAt a_wrote a_draft n x (nI i) := by
  intro n
  induction n with
  | zero => intro i x _ h; omega
  | succ n ih =>
    intro i x hi hn hx
    rw [wX_changedSince_4]
    refine pk_le 8 i (fun h => ?_) (fun h => ?_)
    · have e : x = S := by
        apply b_ext
        intro κ hκ
        rw [hx κ hκ]
        by_cases h8 : κ < 8
        · rw [decide_eq_true (by omega), Bool.and_true]
        · rw [hS8 κ (by omega) hκ, Bool.false_and]
      rw [e]; exact hp
    · have nx : ∀ x', (∀ κ, κ < 32 → bt x' κ = (bt S κ && decide (κ < i + 1))) → ∀ z, z = nI i + 1 → wX_changedSince_4 post T (nI g) f_lastTime f_safeTime f_sealTime f_steps f_waitingWrites f_commitCount f_sealCount f_safeCount f_openSet a_used a_keyOf a_timeOf a_valueOf a_through a_gapLow a_gapHigh a_beganAt a_wrote a_draft n x' z := by
        intro x' hx' z hz
        rw [hz, nI_1]
        exact ih (i + 1) x' (by omega) (by omega) hx'
      have kp : bt S i = false → ∀ κ, κ < 32 → bt x κ = (bt S κ && decide (κ < i + 1)) := by
        intro hf κ hκ
        rw [hx κ hκ]
        by_cases e : κ = i
        · rw [e, hf, Bool.false_and, Bool.false_and]
        · congr 1
          exact decide_eq_decide.mpr (by omega)
      have no' : (¬ ∃ m, pq_bst (pq_lv a_used a_timeOf g a_gapLow a_gapHigh) a_keyOf a_timeOf (nI i) f_lastTime.toInt m ∧ T.toInt < (a_timeOf m).toInt) → bt S i = false := by
        intro hno
        cases hb : bt S i
        · rfl
        · exact absurd ((hS i h).mp hb) hno
      refine xw_cellAt hg (fun m b => ?_) (fun no => ?_)
      · have hm : m < 64 := b.1.1
        refine br_f (nI_pos (by omega)) ⟨vp_in_nI hm (by omega), ?_⟩
        rw [nI_clamp (n := m) (by omega)]
        refine br_c (fun hl => nx x (kp (no' ?_))) (fun hl => ?_)
        · rintro ⟨q, bq, hq⟩
          rw [Int32.le_iff_toInt_le] at hl
          have := b.2 q bq.1
          omega
        · refine nm_e (nx _ (fun κ hκ => ?_))
          rw [xb_or (by omega) hκ, hx κ hκ]
          have ht : bt S i = true := (hS i h).mpr ⟨m, b, by rw [Int32.le_iff_toInt_le] at hl; omega⟩
          by_cases e : κ = i
          · rw [e, ht, decide_eq_true (p := i = i) rfl, decide_eq_true (p := i < i + 1) (by omega)]
            simp
          · rw [decide_eq_false e, Bool.or_false]
            congr 1
            exact decide_eq_decide.mpr (by omega)
      · exact br_t xw_m1n (nx x (kp (no' (fun ⟨m, b, _⟩ => no m b.1))))
theorem xw_changed {post : Int32 → Prop} {T S : Int32} {g : Nat} (hg : g ≤ 4) (hS : ∀ κ, κ < 8 → (bt S κ = true ↔ ∃ i, pq_bst (pq_lv a_used a_timeOf g a_gapLow a_gapHigh) a_keyOf a_timeOf (nI κ) f_lastTime.toInt i ∧ T.toInt < (a_timeOf i).toInt)) (hS8 : ∀ κ, 8 ≤ κ → κ < 32 → bt S κ = false) (hp : post S) : wpX_changedSince post (nI g, f_lastTime, f_safeTime, f_sealTime, f_steps, f_waitingWrites, f_commitCount, f_sealCount, f_safeCount, f_openSet, a_used, a_keyOf, a_timeOf, a_valueOf, a_through, a_gapLow, a_gapHigh, a_beganAt, a_wrote, a_draft) T := by
  unfold wpX_changedSince
  exact ⟨9, xw_changed_l hg hS hS8 hp 9 0 0 (by omega) (by omega) (fun κ hκ => by rw [b_0, decide_eq_false (by omega), Bool.and_false])⟩
end
end
section
/-! walks of the component's storing helpers -/
theorem xw_b0 : vp_nar .boolean 0 = 0 := rfl
theorem xw_b1 : vp_nar .boolean 1 = 1 := rfl
theorem xw_byte : ∀ κ, κ < 8 → vp_nar .byte (nI κ).toInt8.toInt32 = nI κ := by
  intro κ h
  rw [vp_nar_byte]
  exact (by decide +kernel : ∀ κ, κ < 8 → (nI κ).toInt8.toInt32.toInt8.toInt32 = nI κ) κ h
/-- what reclaim (or nothing) leaves: fewer cells, the bests at the times of a reader kept -/
def pq_Rc (nt : Int → Prop) (ky tm gl gh : Nat → Int32) (g : Nat) (us : Nat → Int32) (g' : Nat) (us' : Nat → Int32) : Prop := g' ≤ g ∧ (∀ j, us' j ≠ 0 → us j ≠ 0) ∧ (∀ j, j < 64 → pq_lv us' tm g' gl gh j → pq_lv us tm g gl gh j) ∧ (∀ k T m, nt T → pq_bst (pq_lv us tm g gl gh) ky tm k T m → pq_lv us' tm g' gl gh m)
theorem pq_Rc_r {nt : Int → Prop} {ky tm gl gh : Nat → Int32} {g : Nat} {us : Nat → Int32} : pq_Rc nt ky tm gl gh g us g us := ⟨Nat.le_refl _, fun _ h => h, fun _ _ h => h, fun _ _ _ _ b => b.1.2.1⟩
section
variable {f_gaps f_lastTime f_safeTime f_sealTime f_steps f_waitingWrites f_commitCount f_sealCount f_safeCount f_openSet : Int32} {a_used a_keyOf a_timeOf a_valueOf a_through a_gapLow a_gapHigh a_beganAt a_wrote a_draft : Nat → Int32}
theorem xw_reclaim_l {post : SX → Prop} {g : Nat} {u0 : Nat → Int32} (hg : g ≤ 4) (U : pq_Uq (fun i => u0 i ≠ 0) a_keyOf a_timeOf)
    (hp : ∀ us, (∀ j, us j ≠ 0 → u0 j ≠ 0) → (∀ k T m, pq_nt f_lastTime f_safeTime f_sealTime (¬ f_steps ≤ 0) (fun t => bt f_openSet t = true) a_beganAt T → pq_bst (pq_lv u0 a_timeOf g a_gapLow a_gapHigh) a_keyOf a_timeOf k T m → us m ≠ 0) → (∀ j, j < 64 → us j ≠ 0 → ∃ T, pq_nt f_lastTime f_safeTime f_sealTime (¬ f_steps ≤ 0) (fun t => bt f_openSet t = true) a_beganAt T ∧ pq_bst (pq_lv u0 a_timeOf g a_gapLow a_gapHigh) a_keyOf a_timeOf (a_keyOf j) T j) → post (0, f_lastTime, f_safeTime, f_sealTime, f_steps, f_waitingWrites, f_commitCount, f_sealCount, f_safeCount, f_openSet, us, a_keyOf, a_timeOf, a_valueOf, a_through, a_gapLow, a_gapHigh, a_beganAt, a_wrote, a_draft)) :
    ∀ n i us, i ≤ 64 → 64 - i < n → (∀ j, us j ≠ 0 → u0 j ≠ 0) → (∀ k T m, pq_nt f_lastTime f_safeTime f_sealTime (¬ f_steps ≤ 0) (fun t => bt f_openSet t = true) a_beganAt T → pq_bst (pq_lv u0 a_timeOf g a_gapLow a_gapHigh) a_keyOf a_timeOf k T m → us m ≠ 0) → (∀ j, j < i → us j ≠ 0 → ∃ T, pq_nt f_lastTime f_safeTime f_sealTime (¬ f_steps ≤ 0) (fun t => bt f_openSet t = true) a_beganAt T ∧ pq_bst (pq_lv u0 a_timeOf g a_gapLow a_gapHigh) a_keyOf a_timeOf (a_keyOf j) T j) → wX_reclaim_2 post (nI g) f_lastTime f_safeTime f_sealTime f_steps f_waitingWrites f_commitCount f_sealCount f_safeCount f_openSet n (nI i) us a_keyOf a_timeOf a_valueOf a_through a_gapLow a_gapHigh a_beganAt a_wrote a_draft := by
  intro n
  induction n with
  | zero => intro i us _ h; omega
  | succ n ih =>
    intro i us hi hn ha hb hc
    rw [wX_reclaim_2]
    refine pk_le 64 i (fun h => ?_) (fun h => ?_)
    · exact hp us ha hb (fun j hj => hc j (by omega))
    · have hv : vp_in (nI i) 64 := vp_in_nI (by omega) (by omega)
      have hcl : (nI i).toNatClampNeg = i := nI_clamp (by omega)
      refine ⟨hv, ?_⟩
      rw [hcl]
      have cs : ∀ P : Nat → Prop, (∀ j, j < i → P j) → P i → ∀ j, j < i + 1 → P j := by
        intro P h1 h2 j hj
        by_cases e : j = i
        · rw [e]; exact h2
        · exact h1 j (by omega)
      refine br_c (fun hu x hx => ?_) (fun hu => ?_)
      · rw [hx, nI_1]
        exact ih (i + 1) us (by omega) (by omega) ha hb (cs _ hc (fun z => absurd hu z))
      · have ls : ∀ j, j < 64 → pq_lv us a_timeOf g a_gapLow a_gapHigh j → pq_lv u0 a_timeOf g a_gapLow a_gapHigh j := fun j _ hj => ⟨ha j hj.1, hj.2⟩
        have lk : ∀ k T, pq_nt f_lastTime f_safeTime f_sealTime (¬ f_steps ≤ 0) (fun t => bt f_openSet t = true) a_beganAt T → ∀ m, pq_bst (pq_lv u0 a_timeOf g a_gapLow a_gapHigh) a_keyOf a_timeOf k T m → pq_lv us a_timeOf g a_gapLow a_gapHigh m := fun k T hT m b => ⟨hb k T m hT b, b.1.2.1.2⟩
        have U' : pq_Uq (pq_lv us a_timeOf g a_gapLow a_gapHigh) a_keyOf a_timeOf := pq_Uq_sub (fun j hj => ha j hj.1) U
        refine xw_needed hg h hu U' (fun hN => ?_) (fun hN => ?_)
        · refine br_f (by decide) (fun x hx => ?_)
          rw [hx, nI_1]
          obtain ⟨T, hT, b⟩ := hN
          exact ih (i + 1) us (by omega) (by omega) ha hb (cs _ hc (fun _ => ⟨T, hT, (pq_bst_iff ls (lk _ T hT) i).mp b⟩))
        · refine br_t rfl ⟨hv, nm_e (fun x hx => ?_)⟩
          rw [hx, nI_1, xw_b0]
          refine ih (i + 1) (upd us i 0) (by omega) (by omega) (fun j hj => ?_) (fun k T m hT b => ?_) (fun j hj => ?_)
          · by_cases e : j = i
            · rw [e, pk_us] at hj; exact absurd rfl hj
            · rw [pk_un e] at hj; exact ha j hj
          · by_cases e : m = i
            · subst e
              have ek : a_keyOf m = k := b.1.2.2.1
              subst ek
              exact absurd ⟨T, hT, (pq_bst_iff ls (lk _ T hT) m).mpr b⟩ hN
            · rw [pk_un e]; exact hb k T m hT b
          · by_cases e : j = i
            · rw [e, pk_us]; exact fun z => absurd rfl z
            · rw [pk_un e]; exact hc j (by omega)
theorem xw_reclaim {post : SX → Prop} {g : Nat} (hg : g ≤ 4) (U : pq_Uq (fun i => a_used i ≠ 0) a_keyOf a_timeOf)
    (hp : ∀ us, (∀ j, us j ≠ 0 → a_used j ≠ 0) → (∀ k T m, pq_nt f_lastTime f_safeTime f_sealTime (¬ f_steps ≤ 0) (fun t => bt f_openSet t = true) a_beganAt T → pq_bst (pq_lv a_used a_timeOf g a_gapLow a_gapHigh) a_keyOf a_timeOf k T m → us m ≠ 0) → (∀ j, j < 64 → us j ≠ 0 → ∃ T, pq_nt f_lastTime f_safeTime f_sealTime (¬ f_steps ≤ 0) (fun t => bt f_openSet t = true) a_beganAt T ∧ pq_bst (pq_lv a_used a_timeOf g a_gapLow a_gapHigh) a_keyOf a_timeOf (a_keyOf j) T j) → post (0, f_lastTime, f_safeTime, f_sealTime, f_steps, f_waitingWrites, f_commitCount, f_sealCount, f_safeCount, f_openSet, us, a_keyOf, a_timeOf, a_valueOf, a_through, a_gapLow, a_gapHigh, a_beganAt, a_wrote, a_draft)) : wpX_reclaim post (nI g, f_lastTime, f_safeTime, f_sealTime, f_steps, f_waitingWrites, f_commitCount, f_sealCount, f_safeCount, f_openSet, a_used, a_keyOf, a_timeOf, a_valueOf, a_through, a_gapLow, a_gapHigh, a_beganAt, a_wrote, a_draft) := by
  unfold wpX_reclaim
  exact ⟨65, xw_reclaim_l hg U hp 65 0 a_used (by omega) (by omega) (fun _ h => h) (fun _ _ _ _ b => b.1.2.1.1) (fun j hj => absurd hj (by omega))⟩

theorem xw_enter21 {post : SX → Prop} {T v : Int32} {κ i : Nat} (hκ : κ < 8) (hi : i < 64) (hp : post (f_gaps, f_lastTime, f_safeTime, f_sealTime, f_steps, f_waitingWrites, f_commitCount, f_sealCount, f_safeCount, f_openSet, upd a_used i 1, upd a_keyOf i (nI κ), upd a_timeOf i T, upd a_valueOf i v, upd a_through i 0, a_gapLow, a_gapHigh, a_beganAt, a_wrote, a_draft)) : wX_enter_21 post (nI κ) T v (nI i) f_gaps f_lastTime f_safeTime f_sealTime f_steps f_waitingWrites f_commitCount f_sealCount f_safeCount f_openSet a_used a_keyOf a_timeOf a_valueOf a_through a_gapLow a_gapHigh a_beganAt a_wrote a_draft := by
  unfold wX_enter_21
  have hv : vp_in (nI i) 64 := vp_in_nI (by omega) (by omega)
  have hcl : (nI i).toNatClampNeg = i := nI_clamp (by omega)
  rw [hcl, xw_b0, xw_b1, xw_byte κ hκ]
  exact br_f (nI_pos (by omega)) ⟨hv, nm_e ⟨hv, nm_e ⟨hv, nm_e ⟨hv, nm_e ⟨hv, nm_e hp⟩⟩⟩⟩⟩

theorem xw_enter {post : SX → Prop} {T v : Int32} {g κ : Nat} (hg : g ≤ 4) (hκ : κ < 8) (U : pq_Uq (fun i => a_used i ≠ 0) a_keyOf a_timeOf) (hK : ∀ i, i < 64 → a_used i ≠ 0 → ∃ κ, κ < 8 ∧ a_keyOf i = nI κ)
    (hp : ∀ g' us i, pq_Rc (pq_nt f_lastTime f_safeTime f_sealTime (¬ f_steps ≤ 0) (fun t => bt f_openSet t = true) a_beganAt) a_keyOf a_timeOf a_gapLow a_gapHigh g a_used g' us → i < 64 → us i = 0 → post (nI g', f_lastTime, f_safeTime, f_sealTime, f_steps, f_waitingWrites, f_commitCount, f_sealCount, f_safeCount, f_openSet, upd us i 1, upd a_keyOf i (nI κ), upd a_timeOf i T, upd a_valueOf i v, upd a_through i 0, a_gapLow, a_gapHigh, a_beganAt, a_wrote, a_draft)) : wpX_enter post (nI g, f_lastTime, f_safeTime, f_sealTime, f_steps, f_waitingWrites, f_commitCount, f_sealCount, f_safeCount, f_openSet, a_used, a_keyOf, a_timeOf, a_valueOf, a_through, a_gapLow, a_gapHigh, a_beganAt, a_wrote, a_draft) (nI κ) T v := by
  unfold wpX_enter
  refine xw_freeCell (fun i hi hu => ?_) (fun hall => ?_)
  · exact br_t (nI_pos' (by omega)) (xw_enter21 hκ hi (hp g a_used i pq_Rc_r hi hu))
  · refine br_f xw_m1p (xw_reclaim hg U (fun us ha hb hc => ?_))
    refine xw_freeCell (fun i hi hu => ?_) (fun hall' => ?_)
    · have m0 : ∀ t, ¬ pq_Mk 0 a_gapLow a_gapHigh t := fun t ⟨j, hj, _⟩ => absurd hj (by omega)
      refine xw_enter21 hκ hi (hp 0 us i ⟨by omega, ha, fun j hj hl => ?_, fun k T m hT b => ⟨hb k T m hT b, m0 _⟩⟩ hi hu)
      obtain ⟨T, hT, b⟩ := hc j hj hl.1
      exact b.1.2.1
    · exfalso
      refine pq_full (pq_Uq_sub (fun j hj => hj.1) U : pq_Uq (pq_lv a_used a_timeOf g a_gapLow a_gapHigh) a_keyOf a_timeOf) (fun τ => if τ = 0 then f_safeTime.toInt else if τ = 1 then f_lastTime.toInt else if τ = 2 then f_sealTime.toInt else (a_beganAt (τ - 3)).toInt) (fun i hi => ?_)
      obtain ⟨q, hq, ek⟩ := hK i hi (ha i (hall' i hi))
      obtain ⟨T, hT, b⟩ := hc i hi (hall' i hi)
      rw [ek] at b
      refine ⟨q, hq, ?_⟩
      rcases hT with e | e | ⟨_, e⟩ | ⟨t, ht, _, e⟩
      · exact ⟨0, by omega, by rw [if_pos rfl, ← e]; exact b⟩
      · exact ⟨1, by omega, by rw [if_neg (by omega), if_pos rfl, ← e]; exact b⟩
      · exact ⟨2, by omega, by rw [if_neg (by omega), if_neg (by omega), if_pos rfl, ← e]; exact b⟩
      · exact ⟨t + 3, by omega, by rw [if_neg (by omega), if_neg (by omega), if_neg (by omega), Nat.add_sub_cancel, ← e]; exact b⟩

theorem xw_wt_l {post : SX → Prop} (h0 : (∀ j, j < 64 → ¬ (a_used j ≠ 0 ∧ a_through j = 0 ∧ (a_timeOf j).toInt ≤ f_sealTime.toInt)) → post (f_gaps, f_lastTime, f_safeTime, f_sealTime, f_steps, f_waitingWrites, f_commitCount, f_sealCount, f_safeCount, f_openSet, a_used, a_keyOf, a_timeOf, a_valueOf, a_through, a_gapLow, a_gapHigh, a_beganAt, a_wrote, a_draft)) (h1 : ∀ i, i < 64 → a_used i ≠ 0 ∧ a_through i = 0 ∧ (a_timeOf i).toInt ≤ f_sealTime.toInt → post (f_gaps, f_lastTime, f_safeTime, f_sealTime, f_steps, f_waitingWrites, f_commitCount, f_sealCount, f_safeCount, f_openSet, a_used, a_keyOf, a_timeOf, a_valueOf, upd a_through i 1, a_gapLow, a_gapHigh, a_beganAt, a_wrote, a_draft)) : ∀ n i, i ≤ 64 → 64 - i < n → (∀ j, j < i → ¬ (a_used j ≠ 0 ∧ a_through j = 0 ∧ (a_timeOf j).toInt ≤ f_sealTime.toInt)) → wX_writeThrough_2 post f_gaps f_lastTime f_safeTime f_sealTime f_steps f_waitingWrites f_commitCount f_sealCount f_safeCount f_openSet a_used a_keyOf a_timeOf a_valueOf a_through a_gapLow a_gapHigh a_beganAt a_wrote a_draft n (nI i) := by
  intro n
  induction n with
  | zero => intro i _ h; omega
  | succ n ih =>
    intro i hi hn hj
    rw [wX_writeThrough_2]
    refine pk_le 64 i (fun h => ?_) (fun h => ?_)
    · exact h0 (fun j hj64 => hj j (by omega))
    · have hv : vp_in (nI i) 64 := vp_in_nI (by omega) (by omega)
      have hcl : (nI i).toNatClampNeg = i := nI_clamp (by omega)
      refine ⟨hv, ?_⟩
      rw [hcl]
      have nx : ¬ (a_used i ≠ 0 ∧ a_through i = 0 ∧ (a_timeOf i).toInt ≤ f_sealTime.toInt) → ∀ x, x = nI i + 1 → wX_writeThrough_2 post f_gaps f_lastTime f_safeTime f_sealTime f_steps f_waitingWrites f_commitCount f_sealCount f_safeCount f_openSet a_used a_keyOf a_timeOf a_valueOf a_through a_gapLow a_gapHigh a_beganAt a_wrote a_draft n x := by
        intro hni x hx
        rw [hx, nI_1]
        refine ih (i + 1) (by omega) (by omega) (fun j hj1 => ?_)
        by_cases e : j = i
        · rw [e]; exact hni
        · exact hj j (by omega)
      refine br_c (fun hu => nx (fun z => z.1 hu)) (fun hu => ⟨hv, br_c (fun ht => ⟨hv, br_c (fun hl => nx (fun z => ?_)) (fun hl => ⟨hv, nm_e ?_⟩)⟩) (fun ht => nx (fun z => ht z.2.1))⟩)
      · rw [Int32.lt_iff_toInt_lt] at hl
        have := z.2.2
        omega
      · rw [Int32.lt_iff_toInt_lt] at hl
        rw [xw_b1]
        exact h1 i h ⟨hu, ht, by omega⟩
theorem xw_wt {post : SX → Prop} (h0 : (∀ j, j < 64 → ¬ (a_used j ≠ 0 ∧ a_through j = 0 ∧ (a_timeOf j).toInt ≤ f_sealTime.toInt)) → post (f_gaps, f_lastTime, f_safeTime, f_sealTime, f_steps, f_waitingWrites, f_commitCount, f_sealCount, f_safeCount, f_openSet, a_used, a_keyOf, a_timeOf, a_valueOf, a_through, a_gapLow, a_gapHigh, a_beganAt, a_wrote, a_draft)) (h1 : ∀ i, i < 64 → a_used i ≠ 0 ∧ a_through i = 0 ∧ (a_timeOf i).toInt ≤ f_sealTime.toInt → post (f_gaps, f_lastTime, f_safeTime, f_sealTime, f_steps, f_waitingWrites, f_commitCount, f_sealCount, f_safeCount, f_openSet, a_used, a_keyOf, a_timeOf, a_valueOf, upd a_through i 1, a_gapLow, a_gapHigh, a_beganAt, a_wrote, a_draft)) : wpX_writeThrough post (f_gaps, f_lastTime, f_safeTime, f_sealTime, f_steps, f_waitingWrites, f_commitCount, f_sealCount, f_safeCount, f_openSet, a_used, a_keyOf, a_timeOf, a_valueOf, a_through, a_gapLow, a_gapHigh, a_beganAt, a_wrote, a_draft) := by
  unfold wpX_writeThrough
  exact ⟨65, xw_wt_l h0 h1 65 0 (by omega) (by omega) (fun j hj => absurd hj (by omega))⟩

/-- cells put out where a test holds -/
theorem pq_out {P : Nat → Prop} {u0 us : Nat → Int32} {i : Nat} (h : ∀ j, us j ≠ 0 ↔ u0 j ≠ 0 ∧ ¬ (j < i ∧ P j)) (hP : P i) : ∀ j, upd us i 0 j ≠ 0 ↔ u0 j ≠ 0 ∧ ¬ (j < i + 1 ∧ P j) := by
  intro j
  by_cases e : j = i
  · rw [e, pk_us]
    exact ⟨fun z => absurd rfl z, fun z => absurd ⟨by omega, hP⟩ z.2⟩
  · rw [pk_un e, h j]
    exact ⟨fun z => ⟨z.1, fun w => z.2 ⟨by omega, w.2⟩⟩, fun z => ⟨z.1, fun w => z.2 ⟨by omega, w.2⟩⟩⟩
theorem pq_keep {P : Nat → Prop} {u0 us : Nat → Int32} {i : Nat} (h : ∀ j, us j ≠ 0 ↔ u0 j ≠ 0 ∧ ¬ (j < i ∧ P j)) (hP : us i = 0 ∨ ¬ P i) : ∀ j, us j ≠ 0 ↔ u0 j ≠ 0 ∧ ¬ (j < i + 1 ∧ P j) := by
  intro j
  by_cases e : j = i
  · subst e
    rw [h j]
    refine ⟨fun z => ⟨z.1, fun w => ?_⟩, fun z => ⟨z.1, fun w => absurd w.1 (by omega)⟩⟩
    rcases hP with hP | hP
    · exact absurd hP ((h j).mpr z)
    · exact hP w.2
  · rw [h j]
    exact ⟨fun z => ⟨z.1, fun w => z.2 ⟨by omega, w.2⟩⟩, fun z => ⟨z.1, fun w => z.2 ⟨by omega, w.2⟩⟩⟩

theorem xw_drop_l {post : SX → Prop} {g : Nat} {u0 : Nat → Int32} (hg : g ≤ 4) (hp : ∀ us, (∀ j, us j ≠ 0 ↔ u0 j ≠ 0 ∧ ¬ (j < 64 ∧ pq_Mk g a_gapLow a_gapHigh (a_timeOf j).toInt)) → post (0, f_lastTime, f_safeTime, f_sealTime, f_steps, f_waitingWrites, f_commitCount, f_sealCount, f_safeCount, f_openSet, us, a_keyOf, a_timeOf, a_valueOf, a_through, a_gapLow, a_gapHigh, a_beganAt, a_wrote, a_draft)) : ∀ n i us, i ≤ 64 → 64 - i < n → (∀ j, us j ≠ 0 ↔ u0 j ≠ 0 ∧ ¬ (j < i ∧ pq_Mk g a_gapLow a_gapHigh (a_timeOf j).toInt)) → wX_dropGaps_2 post (nI g) f_lastTime f_safeTime f_sealTime f_steps f_waitingWrites f_commitCount f_sealCount f_safeCount f_openSet n (nI i) us a_keyOf a_timeOf a_valueOf a_through a_gapLow a_gapHigh a_beganAt a_wrote a_draft := by
  intro n
  induction n with
  | zero => intro i us _ h; omega
  | succ n ih =>
    intro i us hi hn hj
    rw [wX_dropGaps_2]
    refine pk_le 64 i (fun h => ?_) (fun h => ?_)
    · have e : i = 64 := by omega
      subst e
      exact hp us hj
    · have hv : vp_in (nI i) 64 := vp_in_nI (by omega) (by omega)
      have hcl : (nI i).toNatClampNeg = i := nI_clamp (by omega)
      refine ⟨hv, ?_⟩
      rw [hcl]
      refine br_c (fun hu x hx => ?_) (fun hu => ⟨hv, xw_masked hg (fun hm => ?_) (fun hm => ?_)⟩)
      · rw [hx, nI_1]
        exact ih (i + 1) us (by omega) (by omega) (pq_keep hj (Or.inl hu))
      · refine br_f (by decide) ⟨hv, nm_e (fun x hx => ?_)⟩
        rw [hx, nI_1, xw_b0]
        exact ih (i + 1) _ (by omega) (by omega) (pq_out hj hm)
      · refine br_t rfl (fun x hx => ?_)
        rw [hx, nI_1]
        exact ih (i + 1) us (by omega) (by omega) (pq_keep hj (Or.inr hm))
theorem xw_drop {post : SX → Prop} {g : Nat} (hg : g ≤ 4) (hp : ∀ us, (∀ j, us j ≠ 0 ↔ a_used j ≠ 0 ∧ ¬ (j < 64 ∧ pq_Mk g a_gapLow a_gapHigh (a_timeOf j).toInt)) → post (0, f_lastTime, f_safeTime, f_sealTime, f_steps, f_waitingWrites, f_commitCount, f_sealCount, f_safeCount, f_openSet, us, a_keyOf, a_timeOf, a_valueOf, a_through, a_gapLow, a_gapHigh, a_beganAt, a_wrote, a_draft)) : wpX_dropGaps post (nI g, f_lastTime, f_safeTime, f_sealTime, f_steps, f_waitingWrites, f_commitCount, f_sealCount, f_safeCount, f_openSet, a_used, a_keyOf, a_timeOf, a_valueOf, a_through, a_gapLow, a_gapHigh, a_beganAt, a_wrote, a_draft) := by
  unfold wpX_dropGaps
  exact ⟨65, xw_drop_l hg hp 65 0 a_used (by omega) (by omega) (fun j => ⟨fun z => ⟨z, fun w => absurd w.1 (by omega)⟩, fun z => z.1⟩)⟩
end
end
section
/-! walks of the reference -/
theorem yw_ix (t κ : Nat) : ((8 : Int32) * nI t) + nI κ = nI (8 * t + κ) := by
  rw [show (8 : Int32) = nI 8 from rfl, pk_mul, nI_add]
theorem xw_ix (t κ : Nat) : (nI t * (8 : Int32)) + nI κ = nI (8 * t + κ) := by
  rw [show (8 : Int32) = nI 8 from rfl, pk_mul, nI_add, Nat.mul_comm]
section
variable {g_safeCount g_sealedCount g_count g_left g_waitingSteps : Int32} {b_safe b_sealed b_now b_busy b_sees b_wrote b_since : Nat → Int32}
theorem yw_isKey_o {post : Int32 → Prop} {p0 : Int32} (h : p0 < 0 ∨ nI 8 ≤ p0) (hp : post 0) : wpY_isKey post (g_safeCount, g_sealedCount, g_count, g_left, g_waitingSteps, b_safe, b_sealed, b_now, b_busy, b_sees, b_wrote, b_since) p0 := by
  unfold wpY_isKey
  by_cases h0 : p0 < 0
  · exact br_t h0 hp
  · exact br_f h0 (br_t (h.resolve_left h0) hp)
theorem yw_isKey_k {post : Int32 → Prop} {κ : Nat} (h : κ < 8) (hp : post 1) : wpY_isKey post (g_safeCount, g_sealedCount, g_count, g_left, g_waitingSteps, b_safe, b_sealed, b_now, b_busy, b_sees, b_wrote, b_since) (nI κ) := by
  unfold wpY_isKey
  exact br_f (nI_pos (by omega)) (br_f (nI_ge (b := 8) h (by decide)) hp)
theorem yw_open_o {post : Int32 → Prop} {p0 : Int32} (h : p0 < 0 ∨ nI 4 ≤ p0) (hp : post 0) : wpY_isOpen post (g_safeCount, g_sealedCount, g_count, g_left, g_waitingSteps, b_safe, b_sealed, b_now, b_busy, b_sees, b_wrote, b_since) p0 := by
  unfold wpY_isOpen
  by_cases h0 : p0 < 0
  · exact br_t h0 hp
  · exact br_f h0 (br_t (h.resolve_left h0) hp)
theorem yw_open_f {post : Int32 → Prop} {t : Nat} (ht : t < 4) (h : b_busy t = 0) (hp : post 0) : wpY_isOpen post (g_safeCount, g_sealedCount, g_count, g_left, g_waitingSteps, b_safe, b_sealed, b_now, b_busy, b_sees, b_wrote, b_since) (nI t) := by
  unfold wpY_isOpen
  refine br_f (nI_pos (by omega)) (br_f (nI_ge (b := 4) ht (by decide)) ⟨vp_in_nI ht (by omega), ?_⟩)
  rw [nI_clamp (n := t) (by omega)]
  exact br_t h hp
theorem yw_open_t {post : Int32 → Prop} {t : Nat} (ht : t < 4) (h : b_busy t ≠ 0) (hp : post 1) : wpY_isOpen post (g_safeCount, g_sealedCount, g_count, g_left, g_waitingSteps, b_safe, b_sealed, b_now, b_busy, b_sees, b_wrote, b_since) (nI t) := by
  unfold wpY_isOpen
  refine br_f (nI_pos (by omega)) (br_f (nI_ge (b := 4) ht (by decide)) ⟨vp_in_nI ht (by omega), ?_⟩)
  rw [nI_clamp (n := t) (by omega)]
  exact br_f h hp

/-- one more cell copied -/
theorem yw_cp {f : Nat → Int32} {a a0 : Nat → Int32} {i : Nat} (h : ∀ κ, κ < i → a κ = f κ) : ∀ κ, κ < i + 1 → upd a i (f i) κ = f κ := by
  intro κ hκ
  by_cases e : κ = i
  · rw [e, pk_us]
  · rw [pk_un e]; exact h κ (by omega)

theorem yw_begin_l {post : Int32 → SY → Prop} {t : Nat} {s0 : Nat → Int32} (ht : t < 4) (hp : ∀ se, (∀ κ, κ < 8 → se (8 * t + κ) = b_now κ) → (∀ j, j < 8 * t ∨ 8 * t + 8 ≤ j → se j = s0 j) → post (nI t) (g_safeCount, g_sealedCount, g_count, g_left, g_waitingSteps, b_safe, b_sealed, b_now, b_busy, se, b_wrote, b_since)) : ∀ n i se, i ≤ 8 → 8 - i < n → (∀ κ, κ < i → se (8 * t + κ) = b_now κ) → (∀ j, j < 8 * t ∨ 8 * t + 8 ≤ j → se j = s0 j) → wY_begin_53 post (nI t) g_safeCount g_sealedCount g_count g_left g_waitingSteps n (nI i) b_safe b_sealed b_now b_busy se b_wrote b_since := by
  intro n
  induction n with
  | zero => intro i se _ h; omega
  | succ n ih =>
    intro i se hi hn h1 h2
    rw [wY_begin_53]
    refine pk_le 8 i (fun h => ?_) (fun h => ?_)
    · exact hp se (fun κ hκ => h1 κ (by omega)) h2
    · refine ⟨vp_in_nI h (by omega), ?_⟩
      rw [yw_ix]
      refine ⟨vp_in_nI (by omega) (by omega), ?_⟩
      rw [nI_clamp (n := 8 * t + i) (by omega), nI_clamp (n := i) (by omega)]
      refine nm_e (fun x hx => ?_)
      rw [hx, nI_1]
      refine ih (i + 1) _ (by omega) (by omega) (fun κ hκ => ?_) (fun j hj => ?_)
      · by_cases e : κ = i
        · rw [e, pk_us]
        · rw [pk_un (by omega)]; exact h1 κ (by omega)
      · rw [pk_un (by omega)]; exact h2 j hj
theorem yw_begin_22 {post : Int32 → SY → Prop} {t : Nat} (ht : t < 4) (hp : ∀ se, (∀ κ, κ < 8 → se (8 * t + κ) = b_now κ) → (∀ j, j < 8 * t ∨ 8 * t + 8 ≤ j → se j = b_sees j) → post (nI t) (g_safeCount, g_sealedCount, g_count, g_left, g_waitingSteps, b_safe, b_sealed, b_now, upd b_busy t 1, se, upd b_wrote t 0, upd b_since t 0)) : wY_begin_22 post (nI t) g_safeCount g_sealedCount g_count g_left g_waitingSteps b_safe b_sealed b_now b_busy b_sees b_wrote b_since := by
  unfold wY_begin_22
  have hv : vp_in (nI t) 4 := vp_in_nI ht (by omega)
  have hcl : (nI t).toNatClampNeg = t := nI_clamp (by omega)
  have hne : ¬ nI t = 4 := fun z => by
    have := (nI_eq (a := t) (b := 4) (by omega) (by omega)).mp z
    omega
  rw [hcl, xw_b1]
  exact br_f hne ⟨hv, nm_e ⟨hv, nm_e ⟨hv, nm_e ⟨9, yw_begin_l ht hp 9 0 b_sees (by omega) (by omega) (fun κ hκ => absurd hκ (by omega)) (fun j _ => rfl)⟩⟩⟩⟩
theorem yw_begin_2 {post : Int32 → SY → Prop} {t : Nat} (ht : t ≤ 4) (hb : ∀ s, s < t → b_busy s ≠ 0) (hf : t < 4 → b_busy t = 0) (hp : wY_begin_22 post (nI t) g_safeCount g_sealedCount g_count g_left g_waitingSteps b_safe b_sealed b_now b_busy b_sees b_wrote b_since) : ∀ n i, i ≤ t → t - i < n → wY_begin_2 post g_safeCount g_sealedCount g_count g_left g_waitingSteps b_safe b_sealed b_now b_busy b_sees b_wrote b_since n (nI i) := by
  intro n
  induction n with
  | zero => intro i _ h; omega
  | succ n ih =>
    intro i hi hn
    rw [wY_begin_2]
    refine pk_le 4 i (fun h => ?_) (fun h => ?_)
    · have e : i = t := by omega
      rw [e]; exact hp
    · refine ⟨vp_in_nI h (by omega), ?_⟩
      rw [nI_clamp (n := i) (by omega)]
      by_cases e : i = t
      · subst e
        exact br_t (hf h) hp
      · refine br_f (hb i (by omega)) (fun x hx => ?_)
        rw [hx, nI_1]
        exact ih (i + 1) (by omega) (by omega)
theorem yw_begin {post : Int32 → SY → Prop} {t : Nat} (ht : t ≤ 4) (hb : ∀ s, s < t → b_busy s ≠ 0) (hf : t < 4 → b_busy t = 0) (h4 : t = 4 → post (-2) (g_safeCount, g_sealedCount, g_count, g_left, g_waitingSteps, b_safe, b_sealed, b_now, b_busy, b_sees, b_wrote, b_since)) (hp : t < 4 → ∀ se, (∀ κ, κ < 8 → se (8 * t + κ) = b_now κ) → (∀ j, j < 8 * t ∨ 8 * t + 8 ≤ j → se j = b_sees j) → post (nI t) (g_safeCount, g_sealedCount, g_count, g_left, g_waitingSteps, b_safe, b_sealed, b_now, upd b_busy t 1, se, upd b_wrote t 0, upd b_since t 0)) : wpY_begin post (g_safeCount, g_sealedCount, g_count, g_left, g_waitingSteps, b_safe, b_sealed, b_now, b_busy, b_sees, b_wrote, b_since) := by
  unfold wpY_begin
  refine ⟨t + 1, yw_begin_2 ht hb hf ?_ (t + 1) 0 (by omega) (by omega)⟩
  by_cases e : t = 4
  · subst e
    unfold wY_begin_22
    exact br_t rfl (h4 rfl)
  · exact yw_begin_22 (by omega) (hp (by omega))

theorem yw_since_l {post : SY → Prop} {t : Nat} {s0 : Nat → Int32} (ht : t < 4) (hp : ∀ si, (∀ u, u < 4 → si u = s0 u ||| b_wrote t) → post (g_safeCount, g_sealedCount, g_count, g_left, g_waitingSteps, b_safe, b_sealed, b_now, b_busy, b_sees, b_wrote, si)) : ∀ n i si, i ≤ 4 → 4 - i < n → (∀ u, u < i → si u = s0 u ||| b_wrote t) → (∀ u, i ≤ u → si u = s0 u) → wY_apply_67 post (nI t) g_safeCount g_sealedCount g_count g_left g_waitingSteps n (nI i) b_safe b_sealed b_now b_busy b_sees b_wrote si := by
  intro n
  induction n with
  | zero => intro i si _ h; omega
  | succ n ih =>
    intro i si hi hn h1 h2
    rw [wY_apply_67]
    refine pk_le 4 i (fun h => ?_) (fun h => ?_)
    · exact hp si (fun u hu => h1 u (by omega))
    · have hv : vp_in (nI i) 4 := vp_in_nI h (by omega)
      refine ⟨hv, vp_in_nI ht (by omega), hv, ?_⟩
      rw [nI_clamp (n := i) (by omega), nI_clamp (n := t) (by omega)]
      refine nm_e (fun x hx => ?_)
      rw [hx, nI_1]
      refine ih (i + 1) _ (by omega) (by omega) (fun u hu => ?_) (fun u hu => ?_)
      · by_cases e : u = i
        · rw [e, pk_us, h2 i (by omega)]
        · rw [pk_un e]; exact h1 u (by omega)
      · rw [pk_un (by omega)]; exact h2 u (by omega)
theorem yw_apply_l {post : SY → Prop} {t w : Nat} {n0 : Nat → Int32} (ht : t < 4) (hp : ∀ nw si, (∀ κ, κ < 8 → nw κ = if bt (b_wrote t) κ = true then b_sees (8 * t + κ) else n0 κ) → (∀ u, u < 4 → si u = b_since u ||| b_wrote t) → post (g_safeCount, g_sealedCount, g_count, g_left, nI (w + pq_cn (fun κ => bt (b_wrote t) κ = true) 8), b_safe, b_sealed, nw, b_busy, b_sees, b_wrote, si)) : ∀ n i nw, i ≤ 8 → 8 - i < n → (∀ κ, κ < i → nw κ = if bt (b_wrote t) κ = true then b_sees (8 * t + κ) else n0 κ) → (∀ κ, i ≤ κ → nw κ = n0 κ) → wY_apply_12 post (nI t) g_safeCount g_sealedCount g_count g_left n (nI i) (nI (w + pq_cn (fun κ => bt (b_wrote t) κ = true) i)) b_safe b_sealed nw b_busy b_sees b_wrote b_since := by
  intro n
  induction n with
  | zero => intro i nw _ h; omega
  | succ n ih =>
    intro i nw hi hn h1 h2
    rw [wY_apply_12]
    refine pk_le 8 i (fun h => ?_) (fun h => ?_)
    · have e : i = 8 := by omega
      subst e
      exact ⟨5, yw_since_l ht (fun si hsi => hp nw si h1 hsi) 5 0 b_since (by omega) (by omega) (fun u hu => absurd hu (by omega)) (fun u _ => rfl)⟩
    · refine ⟨vp_in_nI ht (by omega), ?_⟩
      rw [nI_clamp (n := t) (by omega), yw_ix, nI_clamp (n := 8 * t + i) (by omega), nI_clamp (n := i) (by omega)]
      cases hb : bt (b_wrote t) i
      · refine br_f (xb_fn (by omega) hb) (fun x hx => ?_)
        rw [hx, nI_1]
        have e : pq_cn (fun κ => bt (b_wrote t) κ = true) (i + 1) = pq_cn (fun κ => bt (b_wrote t) κ = true) i := by
          show pq_cn (fun κ => bt (b_wrote t) κ = true) i + pq_b (bt (b_wrote t) i = true) = _
          rw [pq_b0 (by rw [hb]; decide), Nat.add_zero]
        rw [← e]
        refine ih (i + 1) nw (by omega) (by omega) (fun κ hκ => ?_) (fun κ hκ => h2 κ (by omega))
        by_cases ek : κ = i
        · rw [ek, hb, if_neg (by decide)]; exact h2 i (by omega)
        · exact h1 κ (by omega)
      · refine br_t (xb_t (by omega) hb) ⟨vp_in_nI (by omega) (by omega), vp_in_nI h (by omega), nm_e (fun y hy x hx => ?_)⟩
        rw [hx, nI_1, hy, nI_1]
        have e : w + pq_cn (fun κ => bt (b_wrote t) κ = true) i + 1 = w + pq_cn (fun κ => bt (b_wrote t) κ = true) (i + 1) := by
          show _ = w + (pq_cn (fun κ => bt (b_wrote t) κ = true) i + pq_b (bt (b_wrote t) i = true))
          rw [pq_b1 hb, Nat.add_assoc]
        rw [e]
        refine ih (i + 1) _ (by omega) (by omega) (fun κ hκ => ?_) (fun κ hκ => ?_)
        · by_cases ek : κ = i
          · rw [ek, hb, pk_us, if_pos rfl]
          · rw [pk_un ek]; exact h1 κ (by omega)
        · rw [pk_un (by omega)]; exact h2 κ (by omega)
theorem yw_apply {post : SY → Prop} {t w : Nat} (ht : t < 4) (hp : ∀ nw si, (∀ κ, κ < 8 → nw κ = if bt (b_wrote t) κ = true then b_sees (8 * t + κ) else b_now κ) → (∀ u, u < 4 → si u = b_since u ||| b_wrote t) → post (g_safeCount, g_sealedCount, g_count + 1, g_left, nI (w + pq_cn (fun κ => bt (b_wrote t) κ = true) 8), b_safe, b_sealed, nw, b_busy, b_sees, b_wrote, si)) : wpY_apply post (g_safeCount, g_sealedCount, g_count, g_left, nI w, b_safe, b_sealed, b_now, b_busy, b_sees, b_wrote, b_since) (nI t) := by
  unfold wpY_apply
  exact nm_e ⟨9, yw_apply_l ht hp 9 0 b_now (by omega) (by omega) (fun κ hκ => absurd hκ (by omega)) (fun κ _ => rfl)⟩

theorem yw_seal_l {post : Int32 → SY → Prop} (hp : ∀ sd, (∀ κ, κ < 8 → sd κ = b_now κ) → post g_left (g_safeCount, g_sealedCount, g_count, g_left, g_waitingSteps, b_safe, sd, b_now, b_busy, b_sees, b_wrote, b_since)) : ∀ n i sd, i ≤ 8 → 8 - i < n → (∀ κ, κ < i → sd κ = b_now κ) → wY_seal_48 post g_safeCount g_sealedCount g_count g_left g_waitingSteps n (nI i) b_safe sd b_now b_busy b_sees b_wrote b_since := by
  intro n
  induction n with
  | zero => intro i sd _ h; omega
  | succ n ih =>
    intro i sd hi hn h1
    rw [wY_seal_48]
    refine pk_le 8 i (fun h => ?_) (fun h => ?_)
    · exact hp sd (fun κ hκ => h1 κ (by omega))
    · have hv : vp_in (nI i) 8 := vp_in_nI h (by omega)
      refine ⟨hv, hv, ?_⟩
      rw [nI_clamp (n := i) (by omega)]
      refine nm_e (fun x hx => ?_)
      rw [hx, nI_1]
      exact ih (i + 1) _ (by omega) (by omega) (yw_cp (a0 := sd) h1)
theorem yw_flush_l {post : Int32 → SY → Prop} {x2 : Int32} (hp : ∀ sf, (∀ κ, κ < 8 → sf κ = b_sealed κ) → wY_flush_71 post x2 g_safeCount g_sealedCount g_count g_left g_waitingSteps sf b_sealed b_now b_busy b_sees b_wrote b_since) : ∀ n i sf, i ≤ 8 → 8 - i < n → (∀ κ, κ < i → sf κ = b_sealed κ) → wY_flush_47 post x2 g_safeCount g_sealedCount g_count g_left g_waitingSteps n (nI i) sf b_sealed b_now b_busy b_sees b_wrote b_since := by
  intro n
  induction n with
  | zero => intro i sf _ h; omega
  | succ n ih =>
    intro i sf hi hn h1
    rw [wY_flush_47]
    refine pk_le 8 i (fun h => ?_) (fun h => ?_)
    · exact hp sf (fun κ hκ => h1 κ (by omega))
    · have hv : vp_in (nI i) 8 := vp_in_nI h (by omega)
      refine ⟨hv, hv, ?_⟩
      rw [nI_clamp (n := i) (by omega)]
      refine nm_e (fun x hx => ?_)
      rw [hx, nI_1]
      exact ih (i + 1) _ (by omega) (by omega) (yw_cp (a0 := sf) h1)
/-- the reference's flush of m steps out of s -/
theorem yw_flush {post : Int32 → SY → Prop} {m s : Nat} {p0 : Int32} (hs : s < 2 ^ 31) (hm : m ≤ s) (hn : p0 < 0 → m = 0) (hc : ∀ q : Nat, q < 2 ^ 31 → p0 = nI q → m = if q ≤ s then q else s) (h0 : m < s ∨ m = 0 → post (nI m) (g_safeCount, g_sealedCount, g_count, nI (s - m), g_waitingSteps, b_safe, b_sealed, b_now, b_busy, b_sees, b_wrote, b_since)) (h1 : m = s → 0 < s → ∀ sf, (∀ κ, κ < 8 → sf κ = b_sealed κ) → post (nI m) (g_sealedCount, g_sealedCount, g_count, nI 0, g_waitingSteps, sf, b_sealed, b_now, b_busy, b_sees, b_wrote, b_since)) : wpY_flush post (g_safeCount, g_sealedCount, g_count, nI s, g_waitingSteps, b_safe, b_sealed, b_now, b_busy, b_sees, b_wrote, b_since) p0 := by
  have main : wY_flush_24 post (nI m) g_safeCount g_sealedCount g_count (nI s) g_waitingSteps b_safe b_sealed b_now b_busy b_sees b_wrote b_since := by
    unfold wY_flush_24
    refine pk_le m 0 (fun h => ?_) (fun h => ?_) 
    · unfold wY_flush_71
      refine nm_e ?_
      rw [pk_sub hm]
      exact h0 (Or.inr (by omega))
    · refine pk_eq m s (fun e => ?_) (fun e => ?_)
      · refine ⟨9, yw_flush_l (fun sf hsf => ?_) 9 0 b_safe (by omega) (by omega) (fun κ hκ => absurd hκ (by omega))⟩
        unfold wY_flush_71
        refine nm_e ?_
        rw [pk_sub hm, show s - m = 0 by omega]
        exact h1 e (by omega) sf hsf
      · unfold wY_flush_71
        refine nm_e ?_
        rw [pk_sub hm]
        exact h0 (Or.inl (by omega))
  unfold wpY_flush
  by_cases hp : p0 < 0
  · have e := hn hp
    subst e
    exact br_f (Int32.not_le.mpr hp) main
  · obtain ⟨q, hq, rfl⟩ := nI_of hp
    have e := hc q hq rfl
    refine br_t (nI_pos' hq) (pk_le q s (fun h => ?_) (fun h => ?_))
    · rw [if_pos h] at e
      subst e
      exact main
    · rw [if_neg (by omega)] at e
      subst e
      exact main

theorem yw_crash_l2 {post : SY → Prop} (hp : ∀ nw, (∀ κ, κ < 8 → nw κ = b_safe κ) → post (g_safeCount, g_sealedCount, g_safeCount, 0, 0, b_safe, b_sealed, nw, b_busy, b_sees, b_wrote, b_since)) : ∀ n i nw, i ≤ 8 → 8 - i < n → (∀ κ, κ < i → nw κ = b_safe κ) → wY_crash_22 post g_safeCount g_sealedCount g_count g_left g_waitingSteps n (nI i) b_safe b_sealed nw b_busy b_sees b_wrote b_since := by
  intro n
  induction n with
  | zero => intro i nw _ h; omega
  | succ n ih =>
    intro i nw hi hn h1
    rw [wY_crash_22]
    refine pk_le 8 i (fun h => ?_) (fun h => ?_)
    · exact hp nw (fun κ hκ => h1 κ (by omega))
    · have hv : vp_in (nI i) 8 := vp_in_nI h (by omega)
      refine ⟨hv, hv, ?_⟩
      rw [nI_clamp (n := i) (by omega)]
      refine nm_e (fun x hx => ?_)
      rw [hx, nI_1]
      exact ih (i + 1) _ (by omega) (by omega) (yw_cp (a0 := nw) h1)
theorem yw_crash_l1 {post : SY → Prop} (hp : ∀ bz nw, (∀ t, t < 4 → bz t = 0) → (∀ κ, κ < 8 → nw κ = b_safe κ) → post (g_safeCount, g_sealedCount, g_safeCount, 0, 0, b_safe, b_sealed, nw, bz, b_sees, b_wrote, b_since)) : ∀ n i bz, i ≤ 4 → 4 - i < n → (∀ t, t < i → bz t = 0) → wY_crash_2 post g_safeCount g_sealedCount g_count g_left g_waitingSteps n (nI i) b_safe b_sealed b_now bz b_sees b_wrote b_since := by
  intro n
  induction n with
  | zero => intro i bz _ h; omega
  | succ n ih =>
    intro i bz hi hn h1
    rw [wY_crash_2]
    refine pk_le 4 i (fun h => ?_) (fun h => ?_)
    · exact ⟨9, yw_crash_l2 (fun nw hnw => hp bz nw (fun t ht => h1 t (by omega)) hnw) 9 0 b_now (by omega) (by omega) (fun κ hκ => absurd hκ (by omega))⟩
    · have hv : vp_in (nI i) 4 := vp_in_nI h (by omega)
      refine ⟨hv, ?_⟩
      rw [nI_clamp (n := i) (by omega), xw_b0]
      refine nm_e (fun x hx => ?_)
      rw [hx, nI_1]
      refine ih (i + 1) _ (by omega) (by omega) (fun t ht => ?_)
      by_cases e : t = i
      · rw [e, pk_us]
      · rw [pk_un e]; exact h1 t (by omega)
theorem yw_crash {post : SY → Prop} (hp : ∀ bz nw, (∀ t, t < 4 → bz t = 0) → (∀ κ, κ < 8 → nw κ = b_safe κ) → post (g_safeCount, g_sealedCount, g_safeCount, 0, 0, b_safe, b_sealed, nw, bz, b_sees, b_wrote, b_since)) : wpY_crash post (g_safeCount, g_sealedCount, g_count, g_left, g_waitingSteps, b_safe, b_sealed, b_now, b_busy, b_sees, b_wrote, b_since) := by
  unfold wpY_crash
  exact ⟨5, yw_crash_l1 hp 5 0 b_busy (by omega) (by omega) (fun t ht => absurd ht (by omega))⟩

theorem yw_open_l {post : Int32 → Prop} {S : Int32} (hS : ∀ i, i < 32 → (bt S i = true ↔ i < 4 ∧ b_busy i ≠ 0)) (hp : post S) : ∀ n i x, i ≤ 4 → 4 - i < n → (∀ j, j < 32 → (bt x j = true ↔ j < i ∧ b_busy j ≠ 0)) → wY_open_4 post g_safeCount g_sealedCount g_count g_left g_waitingSteps b_safe b_sealed b_now b_busy b_sees b_wrote b_since n x (nI i) := by
  intro n
  induction n with
  | zero => intro i x _ h; omega
  | succ n ih =>
    intro i x hi hn h1
    rw [wY_open_4]
    refine pk_le 4 i (fun h => ?_) (fun h => ?_)
    · have e : i = 4 := by omega
      subst e
      have ex : x = S := b_ext (fun j hj => Bool.eq_iff_iff.mpr ((h1 j hj).trans (hS j hj).symm))
      rw [ex]; exact hp
    · have hv : vp_in (nI i) 4 := vp_in_nI h (by omega)
      refine ⟨hv, ?_⟩
      rw [nI_clamp (n := i) (by omega)]
      refine br_c (fun hb => nm_e (fun y hy => ?_)) (fun hb => nm_e (fun y hy => ?_))
      · rw [hy, nI_1]
        refine ih (i + 1) _ (by omega) (by omega) (fun j hj => ?_)
        rw [b_or, b_0, Bool.or_false, h1 j hj]
        refine ⟨fun z => ⟨by omega, z.2⟩, fun z => ⟨?_, z.2⟩⟩
        by_cases e : j = i
        · subst e; exact absurd hb z.2
        · omega
      · rw [hy, nI_1]
        refine ih (i + 1) _ (by omega) (by omega) (fun j hj => ?_)
        rw [xb_or (by omega) hj, Bool.or_eq_true, h1 j hj, decide_eq_true_iff]
        refine ⟨fun z => ?_, fun z => ?_⟩
        · rcases z with z | z
          · exact ⟨by omega, z.2⟩
          · subst z; exact ⟨by omega, hb⟩
        · by_cases e : j = i
          · exact Or.inr e
          · exact Or.inl ⟨by omega, z.2⟩
theorem yw_open {post : Int32 → Prop} {S : Int32} (hS : ∀ i, i < 32 → (bt S i = true ↔ i < 4 ∧ b_busy i ≠ 0)) (hp : post S) : wpY_open post (g_safeCount, g_sealedCount, g_count, g_left, g_waitingSteps, b_safe, b_sealed, b_now, b_busy, b_sees, b_wrote, b_since) := by
  unfold wpY_open
  exact ⟨5, yw_open_l hS hp 5 0 0 (by omega) (by omega) (fun j hj => ⟨fun z => by rw [b_0] at z; exact absurd z (by decide), fun z => absurd z.1 (by omega)⟩)⟩
end
end
section
/-! the relation's parts, and how the pure steps keep them -/
/-- the cells: keys, times, uniqueness, what is written through -/
def rl_Cel (la sa se : Int32) (st : Prop) (s w g : Nat) (us ky tm th gl gh : Nat → Int32) : Prop :=
  g ≤ 4 ∧ (∀ j, j < g → (gh j).toInt ≤ la.toInt) ∧ pq_Uq (fun i => us i ≠ 0) ky tm ∧
  (∀ i, i < 64 → us i ≠ 0 → (∃ κ, κ < 8 ∧ ky i = nI κ) ∧ (tm i).toInt ≤ la.toInt ∧ (th i = 0 → sa.toInt < (tm i).toInt)) ∧
  (st → pq_cn (fun i => us i ≠ 0 ∧ th i = 0 ∧ (tm i).toInt ≤ se.toInt) 64 + 1 ≤ s) ∧
  pq_cn (fun i => us i ≠ 0 ∧ th i = 0 ∧ (st → se.toInt < (tm i).toInt)) 64 ≤ w
/-- the times -/
def rl_Tim (la sa se : Int32) (st : Prop) (op : Nat → Prop) (bg : Nat → Int32) : Prop :=
  0 ≤ la.toInt ∧ sa.toInt ≤ la.toInt ∧ (st → se.toInt ≤ la.toInt) ∧ ∀ t, t < 4 → op t → (bg t).toInt ≤ la.toInt
/-- what the readers see -/
def rl_Vw (lv : Nat → Prop) (ky tm va : Nat → Int32) (la sa se : Int32) (st : Prop) (op : Nat → Prop) (bg nw sf sd sv wr : Nat → Int32) (sn : Nat → Nat → Prop) : Prop :=
  (∀ κ, κ < 8 → pq_at lv ky tm va (nI κ) la.toInt (nw κ)) ∧
  (∀ κ, κ < 8 → pq_at lv ky tm va (nI κ) sa.toInt (sf κ)) ∧
  (st → ∀ κ, κ < 8 → pq_at lv ky tm va (nI κ) se.toInt (sd κ)) ∧
  (∀ t, t < 4 → op t → ∀ κ, κ < 8 → bt (wr t) κ = false → pq_at lv ky tm va (nI κ) (bg t).toInt (sv (8 * t + κ))) ∧
  (∀ t, t < 4 → op t → ∀ κ, κ < 8 → (sn t κ ↔ ∃ i, i < 64 ∧ lv i ∧ ky i = nI κ ∧ (bg t).toInt < (tm i).toInt))
/-- the bits -/
def rl_Bit (os : Int32) (bz wr si : Nat → Int32) : Prop :=
  (∀ i, i < 32 → (bt os i = true ↔ i < 4 ∧ bz i ≠ 0)) ∧ (∀ t, t < 4 → ∀ κ, 8 ≤ κ → κ < 32 → bt (wr t) κ = false) ∧ (∀ t, t < 4 → ∀ κ, 8 ≤ κ → κ < 32 → bt (si t) κ = false)
/-- the drafts -/
def rl_Dr (op : Nat → Prop) (wr dr sv : Nat → Int32) : Prop := ∀ t, t < 4 → op t → ∀ κ, κ < 8 → bt (wr t) κ = true → dr (8 * t + κ) = sv (8 * t + κ)
/-- how many writes the open transactions hold -/
noncomputable def rl_q (z w : Int32) : Nat := if z = 0 then 0 else pq_cn (fun κ => bt w κ = true) 8
noncomputable def rl_S (bz wr : Nat → Int32) : Nat := rl_q (bz 0) (wr 0) + rl_q (bz 1) (wr 1) + rl_q (bz 2) (wr 2) + rl_q (bz 3) (wr 3)
theorem rl_S_upd {bz wr bz' wr' : Nat → Int32} {t : Nat} (ht : t < 4) (hb : ∀ u, u ≠ t → bz' u = bz u) (hw : ∀ u, u ≠ t → wr' u = wr u) : rl_S bz' wr' + rl_q (bz t) (wr t) = rl_S bz wr + rl_q (bz' t) (wr' t) := by
  unfold rl_S
  rcases (by omega : t = 0 ∨ t = 1 ∨ t = 2 ∨ t = 3) with e | e | e | e
  · subst e
    rw [hb 1 (by decide), hb 2 (by decide), hb 3 (by decide), hw 1 (by decide), hw 2 (by decide), hw 3 (by decide)]
    omega
  · subst e
    rw [hb 0 (by decide), hb 2 (by decide), hb 3 (by decide), hw 0 (by decide), hw 2 (by decide), hw 3 (by decide)]
    omega
  · subst e
    rw [hb 0 (by decide), hb 1 (by decide), hb 3 (by decide), hw 0 (by decide), hw 1 (by decide), hw 3 (by decide)]
    omega
  · subst e
    rw [hb 0 (by decide), hb 1 (by decide), hb 2 (by decide), hw 0 (by decide), hw 1 (by decide), hw 2 (by decide)]
    omega
theorem rl_q0 {w : Int32} : rl_q 0 w = 0 := if_pos rfl
theorem rl_qn {z w : Int32} (h : z ≠ 0) : rl_q z w = pq_cn (fun κ => bt w κ = true) 8 := if_neg h
theorem rl_qz {z : Int32} : rl_q z 0 = 0 := by
  by_cases h : z = 0
  · rw [h]; exact rl_q0
  · rw [rl_qn h]
    exact pq_cn_0 8 (fun j _ z => by rw [b_0] at z; exact absurd z (by decide))

/-! views -/
theorem rl_Vw_op {lv : Nat → Prop} {ky tm va : Nat → Int32} {la sa se : Int32} {st : Prop} {op op' : Nat → Prop} {bg nw sf sd sv wr : Nat → Int32} {sn : Nat → Nat → Prop} (ho : ∀ t, t < 4 → op' t → op t) (V : rl_Vw lv ky tm va la sa se st op bg nw sf sd sv wr sn) : rl_Vw lv ky tm va la sa se st op' bg nw sf sd sv wr sn :=
  ⟨V.1, V.2.1, V.2.2.1, fun t ht h => V.2.2.2.1 t ht (ho t ht h), fun t ht h => V.2.2.2.2 t ht (ho t ht h)⟩
theorem rl_Tim_op {la sa se : Int32} {st : Prop} {op op' : Nat → Prop} {bg : Nat → Int32} (ho : ∀ t, t < 4 → op' t → op t) (V : rl_Tim la sa se st op bg) : rl_Tim la sa se st op' bg :=
  ⟨V.1, V.2.1, V.2.2.1, fun t ht h => V.2.2.2 t ht (ho t ht h)⟩
theorem rl_Vw_c {lv : Nat → Prop} {ky tm va : Nat → Int32} {la sa se : Int32} {st : Prop} {op : Nat → Prop} {bg nw nw' sf sd sv wr : Nat → Int32} {sn sn' : Nat → Nat → Prop} (hn : ∀ κ, κ < 8 → nw' κ = nw κ) (hs : ∀ t κ, t < 4 → κ < 8 → (sn' t κ ↔ sn t κ)) (V : rl_Vw lv ky tm va la sa se st op bg nw sf sd sv wr sn) : rl_Vw lv ky tm va la sa se st op bg nw' sf sd sv wr sn' :=
  ⟨fun κ hκ => by rw [hn κ hκ]; exact V.1 κ hκ, V.2.1, V.2.2.1, V.2.2.2.1, fun t ht h κ hκ => (hs t κ ht hκ).trans (V.2.2.2.2 t ht h κ hκ)⟩
/-- reclaim keeps the views -/
theorem rl_Vw_rc {nt : Int → Prop} {g g' : Nat} {us us' ky tm va gl gh : Nat → Int32} {la sa se : Int32} {st : Prop} {op : Nat → Prop} {bg nw sf sd sv wr : Nat → Int32} {sn : Nat → Nat → Prop} (hnt : ∀ T, pq_nt la sa se st op bg T → nt T) (R : pq_Rc nt ky tm gl gh g us g' us') (hT : ∀ i, i < 64 → us i ≠ 0 → (tm i).toInt ≤ la.toInt) (V : rl_Vw (pq_lv us tm g gl gh) ky tm va la sa se st op bg nw sf sd sv wr sn) : rl_Vw (pq_lv us' tm g' gl gh) ky tm va la sa se st op bg nw sf sd sv wr sn := by
  have sb : ∀ {k T v}, pq_nt la sa se st op bg T → pq_at (pq_lv us tm g gl gh) ky tm va k T v → pq_at (pq_lv us' tm g' gl gh) ky tm va k T v := fun {k T v} h a => pq_at_sub R.2.2.1 (fun i b => R.2.2.2 k T i (hnt T h) b) a
  refine ⟨fun κ hκ => sb (Or.inr (Or.inl rfl)) (V.1 κ hκ), fun κ hκ => sb (Or.inl rfl) (V.2.1 κ hκ), fun hs κ hκ => sb (Or.inr (Or.inr (Or.inl ⟨hs, rfl⟩))) (V.2.2.1 hs κ hκ), fun t ht h κ hκ hb => sb (Or.inr (Or.inr (Or.inr ⟨t, ht, h, rfl⟩))) (V.2.2.2.1 t ht h κ hκ hb), fun t ht h κ hκ => (V.2.2.2.2 t ht h κ hκ).trans ⟨?_, ?_⟩⟩
  · rintro ⟨i, hi, hl, hk, hlt⟩
    obtain ⟨q, b⟩ := pq_best (lv := pq_lv us tm g gl gh) (ky := ky) (tm := tm) (k := nI κ) (T := la.toInt) (j := i) ⟨hi, hl, hk, hT i hi hl.1⟩
    have h1 := b.2 i ⟨hi, hl, hk, hT i hi hl.1⟩
    exact ⟨q, b.1.1, R.2.2.2 _ _ q (hnt _ (Or.inr (Or.inl rfl))) b, b.1.2.2.1, by omega⟩
  · rintro ⟨i, hi, hl, hk, hlt⟩
    exact ⟨i, hi, R.2.2.1 i hi hl, hk, hlt⟩
theorem rl_Cel_rc {nt : Int → Prop} {la sa se : Int32} {st : Prop} {s w g g' : Nat} {us us' ky tm th gl gh : Nat → Int32} (R : pq_Rc nt ky tm gl gh g us g' us') (C : rl_Cel la sa se st s w g us ky tm th gl gh) : rl_Cel la sa se st s w g' us' ky tm th gl gh := by
  obtain ⟨h1, h2, h3, h4, h5, h6⟩ := C
  have hg := R.1
  refine ⟨by omega, fun j hj => h2 j (by omega), pq_Uq_sub R.2.1 h3, fun i hi hu => h4 i hi (R.2.1 i hu), fun hs => ?_, ?_⟩
  · have := h5 hs
    have := pq_cn_le (P := fun i => us' i ≠ 0 ∧ th i = 0 ∧ (tm i).toInt ≤ se.toInt) (Q := fun i => us i ≠ 0 ∧ th i = 0 ∧ (tm i).toInt ≤ se.toInt) 64 (fun j _ z => ⟨R.2.1 j z.1, z.2⟩)
    omega
  · have := pq_cn_le (P := fun i => us' i ≠ 0 ∧ th i = 0 ∧ (st → se.toInt < (tm i).toInt)) (Q := fun i => us i ≠ 0 ∧ th i = 0 ∧ (st → se.toInt < (tm i).toInt)) 64 (fun j _ z => ⟨R.2.1 j z.1, z.2⟩)
    omega

/-- a new cell: cells of other keys, and earlier times, see what they saw -/
theorem pq_add_o {lv lv' : Nat → Prop} {ky ky' tm tm' va va' : Nat → Int32} {i : Nat} {k : Int32} {T : Int} {v : Int32} (hne : ∀ j, j ≠ i → (lv' j ↔ lv j) ∧ ky' j = ky j ∧ tm' j = tm j ∧ va' j = va j) (hi : ¬ lv i) (ho : ¬ (ky' i = k ∧ (tm' i).toInt ≤ T)) (a : pq_at lv ky tm va k T v) : pq_at lv' ky' tm' va' k T v := by
  refine pq_at_ext (fun j => ?_) (fun j cj => ?_) a
  · by_cases e : j = i
    · subst e
      exact ⟨fun c => absurd c.2.1 hi, fun c => absurd c.2.2 ho⟩
    · obtain ⟨h1, h2, h3, h4⟩ := hne j e
      unfold pq_cd
      rw [h1, h2, h3]
  · by_cases e : j = i
    · subst e
      exact absurd cj.2.1 hi
    · obtain ⟨h1, h2, h3, h4⟩ := hne j e
      exact ⟨h3, h4⟩
theorem pq_lv_add {us tm gl gh : Nat → Int32} {g i : Nat} {T : Int32} {j : Nat} (e : j ≠ i) : pq_lv (upd us i 1) (upd tm i T) g gl gh j ↔ pq_lv us tm g gl gh j := by
  unfold pq_lv
  rw [pk_un e, pk_un e]
theorem rl_Vw_add {g i κ0 : Nat} {us ky tm va gl gh : Nat → Int32} {la sa se v : Int32} {st : Prop} {op : Nat → Prop} {bg nw sf sd sv wr : Nat → Int32} {sn : Nat → Nat → Prop} (hi : i < 64) (hu : us i = 0) (hκ : κ0 < 8) (hsa : sa.toInt < la.toInt) (hse : st → se.toInt < la.toInt) (hbg : ∀ t, t < 4 → op t → (bg t).toInt < la.toInt) (hgh : ∀ j, j < g → (gh j).toInt < la.toInt) (hT : ∀ i, i < 64 → us i ≠ 0 → (tm i).toInt ≤ la.toInt) (V : rl_Vw (pq_lv us tm g gl gh) ky tm va la sa se st op bg nw sf sd sv wr sn) : rl_Vw (pq_lv (upd us i 1) (upd tm i la) g gl gh) (upd ky i (nI κ0)) (upd tm i la) (upd va i v) la sa se st op bg (upd nw κ0 v) sf sd sv wr (fun t κ => sn t κ ∨ κ = κ0) := by
  have hni : ¬ pq_lv us tm g gl gh i := fun z => z.1 hu
  have hne : ∀ j, j ≠ i → (pq_lv (upd us i 1) (upd tm i la) g gl gh j ↔ pq_lv us tm g gl gh j) ∧ upd ky i (nI κ0) j = ky j ∧ upd tm i la j = tm j ∧ upd va i v j = va j := fun j e => ⟨pq_lv_add e, pk_un e, pk_un e, pk_un e⟩
  have hli : pq_lv (upd us i 1) (upd tm i la) g gl gh i := by
    unfold pq_lv
    rw [pk_us, pk_us]
    exact ⟨by decide, fun ⟨j, hj, h1, h2⟩ => by have := hgh j hj; omega⟩
  have lo : ∀ {k T w}, T < la.toInt → pq_at (pq_lv us tm g gl gh) ky tm va k T w → pq_at (pq_lv (upd us i 1) (upd tm i la) g gl gh) (upd ky i (nI κ0)) (upd tm i la) (upd va i v) k T w := fun {k T w} h a => pq_add_o hne hni (fun z => by have z2 := z.2; rw [pk_us] at z2; omega) a
  refine ⟨fun κ hk8 => ?_, fun κ hk8 => lo hsa (V.2.1 κ hk8), fun hs κ hk8 => lo (hse hs) (V.2.2.1 hs κ hk8), fun t ht h κ hk8 hb => lo (hbg t ht h) (V.2.2.2.1 t ht h κ hk8 hb), fun t ht h κ hk8 => ?_⟩
  · by_cases e : κ = κ0
    · subst e
      rw [pk_us]
      refine Or.inl ⟨i, ⟨⟨hi, hli, pk_us, by rw [pk_us]; omega⟩, fun j cj => ?_⟩, pk_us⟩
      rw [pk_us]
      exact cj.2.2.2
    · rw [pk_un e]
      refine pq_add_o hne hni (fun z => ?_) (V.1 κ hk8)
      have z1 := z.1
      rw [pk_us] at z1
      exact e ((nI_eq (by omega) (by omega)).mp z1).symm
  · constructor
    · intro hs
      rcases hs with hs | e
      · obtain ⟨j, hj, hl, hk, hlt⟩ := (V.2.2.2.2 t ht h κ hk8).mp hs
        have e : j ≠ i := fun e => hni (e ▸ hl)
        exact ⟨j, hj, (hne j e).1.mpr hl, by rw [pk_un e]; exact hk, by rw [pk_un e]; exact hlt⟩
      · subst e
        exact ⟨i, hi, hli, pk_us, by rw [pk_us]; exact hbg t ht h⟩
    · rintro ⟨j, hj, hl, hk, hlt⟩
      by_cases e : j = i
      · subst e
        rw [pk_us] at hk
        exact Or.inr ((nI_eq (by omega) (by omega)).mp hk).symm
      · rw [pk_un e] at hk hlt
        exact Or.inl ((V.2.2.2.2 t ht h κ hk8).mpr ⟨j, hj, (hne j e).1.mp hl, hk, hlt⟩)
theorem rl_Cel_add {la sa se : Int32} {st : Prop} {s w g i κ0 : Nat} {us ky tm th gl gh : Nat → Int32} (hi : i < 64) (hu : us i = 0) (hκ : κ0 < 8) (hsa : sa.toInt < la.toInt) (hse : st → se.toInt < la.toInt) (hf : ∀ j, j < 64 → us j ≠ 0 → ky j = nI κ0 → tm j ≠ la) (C : rl_Cel la sa se st s w g us ky tm th gl gh) : rl_Cel la sa se st s (w + 1) g (upd us i 1) (upd ky i (nI κ0)) (upd tm i la) (upd th i 0) gl gh := by
  obtain ⟨h1, h2, h3, h4, h5, h6⟩ := C
  refine ⟨h1, h2, fun a b ha hb ua ub ek et => ?_, fun j hj huj => ?_, fun hs => ?_, ?_⟩
  · by_cases ea : a = i
    · by_cases eb : b = i
      · rw [ea, eb]
      · exfalso
        subst ea
        rw [pk_us, pk_un eb] at ek et
        have ub' : upd us a 1 b ≠ 0 := ub
        rw [pk_un eb] at ub'
        exact hf b hb ub' ek.symm et.symm
    · by_cases eb : b = i
      · exfalso
        subst eb
        rw [pk_us, pk_un ea] at ek et
        have ua' : upd us b 1 a ≠ 0 := ua
        rw [pk_un ea] at ua'
        exact hf a ha ua' ek et
      · have ua' : upd us i 1 a ≠ 0 := ua
        have ub' : upd us i 1 b ≠ 0 := ub
        rw [pk_un ea] at ua'
        rw [pk_un eb] at ub'
        rw [pk_un ea, pk_un eb] at ek et
        exact h3 a b ha hb ua' ub' ek et
  · by_cases e : j = i
    · subst e
      rw [pk_us, pk_us, pk_us]
      exact ⟨⟨κ0, hκ, rfl⟩, Int.le_refl _, fun _ => hsa⟩
    · rw [pk_un e] at huj
      rw [pk_un e, pk_un e, pk_un e]
      exact h4 j hj huj
  · have := h5 hs
    have := pq_cn_le (P := fun j => upd us i 1 j ≠ 0 ∧ upd th i 0 j = 0 ∧ (upd tm i la j).toInt ≤ se.toInt) (Q := fun i => us i ≠ 0 ∧ th i = 0 ∧ (tm i).toInt ≤ se.toInt) 64 (fun j _ z => by
      by_cases e : j = i
      · subst e
        have z3 := z.2.2
        rw [pk_us] at z3
        have := hse hs
        omega
      · rw [pk_un e, pk_un e, pk_un e] at z
        exact z)
    omega
  · have := pq_cn_add (i := i) (P := fun j => upd us i 1 j ≠ 0 ∧ upd th i 0 j = 0 ∧ (st → se.toInt < (upd tm i la j).toInt)) (Q := fun i => us i ≠ 0 ∧ th i = 0 ∧ (st → se.toInt < (tm i).toInt)) 64 (fun j _ e z => by
      rw [pk_un e, pk_un e, pk_un e] at z
      exact z)
    omega
/-- the best at the newest time is later than T: some cell is -/
theorem rl_sn_b {lv : Nat → Prop} {ky tm : Nat → Int32} {k : Int32} {la T : Int} (hT : ∀ i, i < 64 → lv i → (tm i).toInt ≤ la) : (∃ i, i < 64 ∧ lv i ∧ ky i = k ∧ T < (tm i).toInt) ↔ ∃ i, pq_bst lv ky tm k la i ∧ T < (tm i).toInt := by
  constructor
  · rintro ⟨i, hi, hl, hk, hlt⟩
    obtain ⟨q, b⟩ := pq_best (lv := lv) (ky := ky) (tm := tm) (k := k) (T := la) (j := i) ⟨hi, hl, hk, hT i hi hl⟩
    have h1 := b.2 i ⟨hi, hl, hk, hT i hi hl⟩
    exact ⟨q, b, by omega⟩
  · rintro ⟨i, b, hlt⟩
    exact ⟨i, b.1.1, b.1.2.1, b.1.2.2.1, hlt⟩

/-! the relation -/
def rl_F (k : Nat) (f_lastTime : Int32) (f_safeTime : Int32) (f_sealTime : Int32) (f_openSet : Int32) (a_used : Nat → Int32) (a_keyOf : Nat → Int32) (a_timeOf : Nat → Int32) (a_valueOf : Nat → Int32) (a_through : Nat → Int32) (a_gapLow : Nat → Int32) (a_gapHigh : Nat → Int32) (a_beganAt : Nat → Int32) (a_wrote : Nat → Int32) (a_draft : Nat → Int32) (g : Nat) (s : Nat) (w : Nat) (b_safe : Nat → Int32) (b_sealed : Nat → Int32) (b_now : Nat → Int32) (b_busy : Nat → Int32) (b_sees : Nat → Int32) (b_since : Nat → Int32) : Prop :=
  rl_Cel f_lastTime f_safeTime f_sealTime (0 < s) s w g a_used a_keyOf a_timeOf a_through a_gapLow a_gapHigh ∧
  rl_Tim f_lastTime f_safeTime f_sealTime (0 < s) (fun t => bt f_openSet t = true) a_beganAt ∧
  rl_Vw (pq_lv a_used a_timeOf g a_gapLow a_gapHigh) a_keyOf a_timeOf a_valueOf f_lastTime f_safeTime f_sealTime (0 < s) (fun t => bt f_openSet t = true) a_beganAt b_now b_safe b_sealed b_sees a_wrote (fun t κ => bt (b_since t) κ = true) ∧
  rl_Bit f_openSet b_busy a_wrote b_since ∧
  rl_Dr (fun t => bt f_openSet t = true) a_wrote a_draft b_sees ∧
  4 * f_lastTime.toInt ≤ k ∧ 4 * (s + w + rl_S b_busy a_wrote) ≤ k
/-- the relation at the head of a turn whose first cell is k -/
def i_Rel (k : Nat) (u : SX) (v : SY) : Prop :=
  match u with
  | (f_gaps, f_lastTime, f_safeTime, f_sealTime, f_steps, f_waitingWrites, f_commitCount, f_sealCount, f_safeCount, f_openSet, a_used, a_keyOf, a_timeOf, a_valueOf, a_through, a_gapLow, a_gapHigh, a_beganAt, a_wrote, a_draft) => match v with
    | (g_safeCount, g_sealedCount, g_count, g_left, g_waitingSteps, b_safe, b_sealed, b_now, b_busy, b_sees, b_wrote, b_since) => g_safeCount = f_safeCount ∧ g_sealedCount = f_sealCount ∧ g_count = f_commitCount ∧ g_left = f_steps ∧ g_waitingSteps = f_waitingWrites ∧ b_wrote = a_wrote ∧ ∃ g s w : Nat, f_gaps = nI g ∧ f_steps = nI s ∧ f_waitingWrites = nI w ∧ rl_F k f_lastTime f_safeTime f_sealTime f_openSet a_used a_keyOf a_timeOf a_valueOf a_through a_gapLow a_gapHigh a_beganAt a_wrote a_draft g s w b_safe b_sealed b_now b_busy b_sees b_since
section
variable {f_gaps f_lastTime f_safeTime f_sealTime f_steps f_waitingWrites f_commitCount f_sealCount f_safeCount f_openSet : Int32} {a_used a_keyOf a_timeOf a_valueOf a_through a_gapLow a_gapHigh a_beganAt a_wrote a_draft : Nat → Int32} {g_safeCount g_sealedCount g_count g_left g_waitingSteps : Int32} {b_safe b_sealed b_now b_busy b_sees b_wrote b_since : Nat → Int32}
theorem rl_in {k g s w : Nat} (h : rl_F k f_lastTime f_safeTime f_sealTime f_openSet a_used a_keyOf a_timeOf a_valueOf a_through a_gapLow a_gapHigh a_beganAt a_wrote a_draft g s w b_safe b_sealed b_now b_busy b_sees b_since) : i_Rel k (nI g, f_lastTime, f_safeTime, f_sealTime, nI s, nI w, f_commitCount, f_sealCount, f_safeCount, f_openSet, a_used, a_keyOf, a_timeOf, a_valueOf, a_through, a_gapLow, a_gapHigh, a_beganAt, a_wrote, a_draft) (f_safeCount, f_sealCount, f_commitCount, nI s, nI w, b_safe, b_sealed, b_now, b_busy, b_sees, a_wrote, b_since) :=
  ⟨rfl, rfl, rfl, rfl, rfl, rfl, g, s, w, rfl, rfl, rfl, h⟩
end
theorem rl_el {k : Nat} {u : SX} {v : SY} {P : SX → SY → Prop} (I : i_Rel k u v) (h : ∀ (f_lastTime f_safeTime f_sealTime f_commitCount f_sealCount f_safeCount f_openSet : Int32) (a_used a_keyOf a_timeOf a_valueOf a_through a_gapLow a_gapHigh a_beganAt a_wrote a_draft : Nat → Int32) (g s w : Nat) (b_safe b_sealed b_now b_busy b_sees b_since : Nat → Int32), rl_F k f_lastTime f_safeTime f_sealTime f_openSet a_used a_keyOf a_timeOf a_valueOf a_through a_gapLow a_gapHigh a_beganAt a_wrote a_draft g s w b_safe b_sealed b_now b_busy b_sees b_since → P (nI g, f_lastTime, f_safeTime, f_sealTime, nI s, nI w, f_commitCount, f_sealCount, f_safeCount, f_openSet, a_used, a_keyOf, a_timeOf, a_valueOf, a_through, a_gapLow, a_gapHigh, a_beganAt, a_wrote, a_draft) (f_safeCount, f_sealCount, f_commitCount, nI s, nI w, b_safe, b_sealed, b_now, b_busy, b_sees, a_wrote, b_since)) : P u v := by
  obtain ⟨f_gaps, f_lastTime, f_safeTime, f_sealTime, f_steps, f_waitingWrites, f_commitCount, f_sealCount, f_safeCount, f_openSet, a_used, a_keyOf, a_timeOf, a_valueOf, a_through, a_gapLow, a_gapHigh, a_beganAt, a_wrote, a_draft⟩ := u
  obtain ⟨g_safeCount, g_sealedCount, g_count, g_left, g_waitingSteps, b_safe, b_sealed, b_now, b_busy, b_sees, b_wrote, b_since⟩ := v
  obtain ⟨e1, e2, e3, e4, e5, e6, g, s, w, e7, e8, e9, F⟩ := I
  subst e1 e2 e3 e6 e7
  rw [e4, e5]
  subst e8 e9
  exact h _ _ _ _ _ _ _ _ _ _ _ _ _ _ _ _ _ _ _ _ _ _ _ _ _ _ F
theorem i_up {k : Nat} {u : SX} {v : SY} (h : i_Rel k u v) : i_Rel (k + 4) u v := by
  refine rl_el (P := fun u v => i_Rel (k + 4) u v) h ?_
  intro f_lastTime f_safeTime f_sealTime f_commitCount f_sealCount f_safeCount f_openSet a_used a_keyOf a_timeOf a_valueOf a_through a_gapLow a_gapHigh a_beganAt a_wrote a_draft g s w b_safe b_sealed b_now b_busy b_sees b_since F
  obtain ⟨C, T, V, B, D, n1, n2⟩ := F
  exact rl_in ⟨C, T, V, B, D, by omega, by omega⟩
end
section
/-! the plain methods -/
theorem rl_first (bz : Nat → Int32) : ∃ t, t ≤ 4 ∧ (∀ s, s < t → bz s ≠ 0) ∧ (t < 4 → bz t = 0) := by
  by_cases h0 : bz 0 = 0
  · exact ⟨0, by omega, fun s hs => absurd hs (by omega), fun _ => h0⟩
  by_cases h1 : bz 1 = 0
  · refine ⟨1, by omega, fun s hs => ?_, fun _ => h1⟩
    have e : s = 0 := by omega
    rw [e]; exact h0
  by_cases h2 : bz 2 = 0
  · refine ⟨2, by omega, fun s hs => ?_, fun _ => h2⟩
    rcases (by omega : s = 0 ∨ s = 1) with e | e
    · rw [e]; exact h0
    · rw [e]; exact h1
  by_cases h3 : bz 3 = 0
  · refine ⟨3, by omega, fun s hs => ?_, fun _ => h3⟩
    rcases (by omega : s = 0 ∨ s = 1 ∨ s = 2) with e | e | e
    · rw [e]; exact h0
    · rw [e]; exact h1
    · rw [e]; exact h2
  refine ⟨4, by omega, fun s hs => ?_, fun h => absurd h (by omega)⟩
  rcases (by omega : s = 0 ∨ s = 1 ∨ s = 2 ∨ s = 3) with e | e | e | e
  · rw [e]; exact h0
  · rw [e]; exact h1
  · rw [e]; exact h2
  · rw [e]; exact h3
theorem rl_n0 (i : Nat) : ¬ bt 0 i = true := by rw [b_0]; decide
theorem rl_bf {x : Int32} {t : Nat} (h : ¬ bt x t = true) : bt x t = false := by
  cases hb : bt x t
  · rfl
  · exact absurd hb h
section
variable {f_gaps f_lastTime f_safeTime f_sealTime f_steps f_waitingWrites f_commitCount f_sealCount f_safeCount f_openSet : Int32} {a_used a_keyOf a_timeOf a_valueOf a_through a_gapLow a_gapHigh a_beganAt a_wrote a_draft : Nat → Int32} {g_safeCount g_sealedCount g_count g_left g_waitingSteps : Int32} {b_safe b_sealed b_now b_busy b_sees b_wrote b_since : Nat → Int32} {k g s w : Nat}
theorem rl_up (F : rl_F k f_lastTime f_safeTime f_sealTime f_openSet a_used a_keyOf a_timeOf a_valueOf a_through a_gapLow a_gapHigh a_beganAt a_wrote a_draft g s w b_safe b_sealed b_now b_busy b_sees b_since) : rl_F (k + 4) f_lastTime f_safeTime f_sealTime f_openSet a_used a_keyOf a_timeOf a_valueOf a_through a_gapLow a_gapHigh a_beganAt a_wrote a_draft g s w b_safe b_sealed b_now b_busy b_sees b_since := by
  obtain ⟨C, T, V, B, D, n1, n2⟩ := F
  exact ⟨C, T, V, B, D, by omega, by omega⟩
theorem rl_ob {t : Nat} (F : rl_F k f_lastTime f_safeTime f_sealTime f_openSet a_used a_keyOf a_timeOf a_valueOf a_through a_gapLow a_gapHigh a_beganAt a_wrote a_draft g s w b_safe b_sealed b_now b_busy b_sees b_since) (ht : t < 4) (h : bt f_openSet t = true) : b_busy t ≠ 0 := ((F.2.2.2.1.1 t (by omega)).mp h).2
theorem rl_of {t : Nat} (F : rl_F k f_lastTime f_safeTime f_sealTime f_openSet a_used a_keyOf a_timeOf a_valueOf a_through a_gapLow a_gapHigh a_beganAt a_wrote a_draft g s w b_safe b_sealed b_now b_busy b_sees b_since) (ht : t < 4) (h : ¬ bt f_openSet t = true) : b_busy t = 0 := by
  by_cases e : b_busy t = 0
  · exact e
  · exact absurd ((F.2.2.2.1.1 t (by omega)).mpr ⟨ht, e⟩) h
/-- the set of changed keys is the reference's -/
theorem rl_chg {t : Nat} {post : Int32 → Prop} (F : rl_F k f_lastTime f_safeTime f_sealTime f_openSet a_used a_keyOf a_timeOf a_valueOf a_through a_gapLow a_gapHigh a_beganAt a_wrote a_draft g s w b_safe b_sealed b_now b_busy b_sees b_since) (ht : t < 4) (h : bt f_openSet t = true) (hp : post (b_since t)) : wpX_changedSince post (nI g, f_lastTime, f_safeTime, f_sealTime, f_steps, f_waitingWrites, f_commitCount, f_sealCount, f_safeCount, f_openSet, a_used, a_keyOf, a_timeOf, a_valueOf, a_through, a_gapLow, a_gapHigh, a_beganAt, a_wrote, a_draft) (a_beganAt t) := by
  obtain ⟨C, T, V, B, D, n1, n2⟩ := F
  refine xw_changed C.1 (fun κ hκ => ?_) (fun κ h8 hκ => B.2.2 t ht κ h8 hκ) hp
  refine (V.2.2.2.2 t ht h κ hκ).trans (rl_sn_b (fun i hi hl => (C.2.2.2.1 i hi hl.1).2.1))

theorem xw_begin_l {post : Int32 → SX → Prop} {t : Nat} (ht : t ≤ 4) (hb : ∀ s, s < t → bt f_openSet s = true) (hf : t < 4 → bt f_openSet t = false) (h4 : t = 4 → post (-2) (f_gaps, f_lastTime, f_safeTime, f_sealTime, f_steps, f_waitingWrites, f_commitCount, f_sealCount, f_safeCount, f_openSet, a_used, a_keyOf, a_timeOf, a_valueOf, a_through, a_gapLow, a_gapHigh, a_beganAt, a_wrote, a_draft)) (hp : t < 4 → post (nI t) (f_gaps, f_lastTime, f_safeTime, f_sealTime, f_steps, f_waitingWrites, f_commitCount, f_sealCount, f_safeCount, f_openSet ||| ((1 : Int32) <<< (nI t &&& 31)), a_used, a_keyOf, a_timeOf, a_valueOf, a_through, a_gapLow, a_gapHigh, upd a_beganAt t f_lastTime, upd a_wrote t 0, a_draft)) : ∀ n i, i ≤ t → t - i < n → wX_begin_2 post f_gaps f_lastTime f_safeTime f_sealTime f_steps f_waitingWrites f_commitCount f_sealCount f_safeCount f_openSet a_used a_keyOf a_timeOf a_valueOf a_through a_gapLow a_gapHigh a_beganAt a_wrote a_draft n (nI i) := by
  intro n
  induction n with
  | zero => intro i _ h; omega
  | succ n ih =>
    intro i hi hn
    rw [wX_begin_2]
    refine pk_le 4 i (fun h => ?_) (fun h => ?_)
    · exact h4 (by omega)
    · by_cases e : i = t
      · subst e
        refine xw_open_f h (hf h) (br_t rfl ?_)
        have hv : vp_in (nI i) 4 := vp_in_nI h (by omega)
        rw [nI_clamp (n := i) (by omega)]
        exact nm_e ⟨hv, nm_e ⟨hv, nm_e (hp h)⟩⟩
      · refine xw_open_t h (hb i (by omega)) (br_f (by decide) (fun x hx => ?_))
        rw [hx, nI_1]
        exact ih (i + 1) (by omega) (by omega)
theorem xw_begin {post : Int32 → SX → Prop} {t : Nat} (ht : t ≤ 4) (hb : ∀ s, s < t → bt f_openSet s = true) (hf : t < 4 → bt f_openSet t = false) (h4 : t = 4 → post (-2) (f_gaps, f_lastTime, f_safeTime, f_sealTime, f_steps, f_waitingWrites, f_commitCount, f_sealCount, f_safeCount, f_openSet, a_used, a_keyOf, a_timeOf, a_valueOf, a_through, a_gapLow, a_gapHigh, a_beganAt, a_wrote, a_draft)) (hp : t < 4 → post (nI t) (f_gaps, f_lastTime, f_safeTime, f_sealTime, f_steps, f_waitingWrites, f_commitCount, f_sealCount, f_safeCount, f_openSet ||| ((1 : Int32) <<< (nI t &&& 31)), a_used, a_keyOf, a_timeOf, a_valueOf, a_through, a_gapLow, a_gapHigh, upd a_beganAt t f_lastTime, upd a_wrote t 0, a_draft)) : wpX_begin post (f_gaps, f_lastTime, f_safeTime, f_sealTime, f_steps, f_waitingWrites, f_commitCount, f_sealCount, f_safeCount, f_openSet, a_used, a_keyOf, a_timeOf, a_valueOf, a_through, a_gapLow, a_gapHigh, a_beganAt, a_wrote, a_draft) := by
  unfold wpX_begin
  exact ⟨t + 1, xw_begin_l ht hb hf h4 hp (t + 1) 0 (by omega) (by omega)⟩
theorem rl_F_begin {t : Nat} {se : Nat → Int32} (F : rl_F k f_lastTime f_safeTime f_sealTime f_openSet a_used a_keyOf a_timeOf a_valueOf a_through a_gapLow a_gapHigh a_beganAt a_wrote a_draft g s w b_safe b_sealed b_now b_busy b_sees b_since) (ht : t < 4) (hz : b_busy t = 0) (h1 : ∀ κ, κ < 8 → se (8 * t + κ) = b_now κ) (h2 : ∀ j, j < 8 * t ∨ 8 * t + 8 ≤ j → se j = b_sees j) : rl_F (k + 4) f_lastTime f_safeTime f_sealTime (f_openSet ||| ((1 : Int32) <<< (nI t &&& 31))) a_used a_keyOf a_timeOf a_valueOf a_through a_gapLow a_gapHigh (upd a_beganAt t f_lastTime) (upd a_wrote t 0) a_draft g s w b_safe b_sealed b_now (upd b_busy t 1) se (upd b_since t 0) := by
  obtain ⟨C, T, V, B, D, n1, n2⟩ := F
  have ho : ∀ u, u < 32 → (bt (f_openSet ||| ((1 : Int32) <<< (nI t &&& 31))) u = true ↔ bt f_openSet u = true ∨ u = t) := by
    intro u hu
    rw [xb_or (by omega) hu, Bool.or_eq_true, decide_eq_true_iff]
  have oo : ∀ u, u < 4 → u ≠ t → bt (f_openSet ||| ((1 : Int32) <<< (nI t &&& 31))) u = true → bt f_openSet u = true := fun u hu e h => ((ho u (by omega)).mp h).resolve_right e
  refine ⟨C, ⟨T.1, T.2.1, T.2.2.1, fun u hu h => ?_⟩, ⟨V.1, V.2.1, V.2.2.1, fun u hu h κ hκ hb => ?_, fun u hu h κ hκ => ?_⟩, ⟨fun i hi => ?_, fun u hu κ h8 hκ => ?_, fun u hu κ h8 hκ => ?_⟩, fun u hu h κ hκ hb => ?_, by omega, ?_⟩
  · by_cases e : u = t
    · rw [e, pk_us]; omega
    · rw [pk_un e]; exact T.2.2.2 u hu (oo u hu e h)
  · by_cases e : u = t
    · subst e
      rw [pk_us, h1 κ hκ]; exact V.1 κ hκ
    · rw [pk_un e] at hb
      rw [pk_un e, h2 (8 * u + κ) (by omega)]
      exact V.2.2.2.1 u hu (oo u hu e h) κ hκ hb
  · show bt (upd b_since t 0 u) κ = true ↔ _
    by_cases e : u = t
    · subst e
      rw [pk_us, pk_us, b_0]
      refine ⟨fun z => absurd z (by decide), fun ⟨i, hi, hl, hk, hlt⟩ => ?_⟩
      have := (C.2.2.2.1 i hi hl.1).2.1
      omega
    · rw [pk_un e, pk_un e]
      exact V.2.2.2.2 u hu (oo u hu e h) κ hκ
  · rw [ho i hi, B.1 i hi]
    by_cases e : i = t
    · subst e
      rw [pk_us]
      exact ⟨fun _ => ⟨ht, by decide⟩, fun _ => Or.inr rfl⟩
    · rw [pk_un e]
      exact ⟨fun z => z.resolve_right e, fun z => Or.inl z⟩
  · by_cases e : u = t
    · rw [e, pk_us, b_0]
    · rw [pk_un e]; exact B.2.1 u hu κ h8 hκ
  · by_cases e : u = t
    · rw [e, pk_us, b_0]
    · rw [pk_un e]; exact B.2.2 u hu κ h8 hκ
  · by_cases e : u = t
    · subst e
      rw [pk_us, b_0] at hb
      exact absurd hb (by decide)
    · rw [pk_un e] at hb
      rw [h2 (8 * u + κ) (by omega)]
      exact D u hu (oo u hu e h) κ hκ hb
  · have e := rl_S_upd (bz := b_busy) (wr := a_wrote) (bz' := upd b_busy t 1) (wr' := upd a_wrote t 0) ht (fun u hu => pk_un hu) (fun u hu => pk_un hu)
    rw [pk_us, pk_us, hz, rl_q0, rl_qz] at e
    omega
theorem rl_F_write {t κ0 : Nat} {v : Int32} (F : rl_F k f_lastTime f_safeTime f_sealTime f_openSet a_used a_keyOf a_timeOf a_valueOf a_through a_gapLow a_gapHigh a_beganAt a_wrote a_draft g s w b_safe b_sealed b_now b_busy b_sees b_since) (ht : t < 4) (hk : κ0 < 8) : rl_F (k + 4) f_lastTime f_safeTime f_sealTime f_openSet a_used a_keyOf a_timeOf a_valueOf a_through a_gapLow a_gapHigh a_beganAt (upd a_wrote t (a_wrote t ||| ((1 : Int32) <<< (nI κ0 &&& 31)))) (upd a_draft (8 * t + κ0) v) g s w b_safe b_sealed b_now b_busy (upd b_sees (8 * t + κ0) v) b_since := by
  obtain ⟨C, T, V, B, D, n1, n2⟩ := F
  have ho : ∀ u, u < 32 → (bt (a_wrote t ||| ((1 : Int32) <<< (nI κ0 &&& 31))) u = (bt (a_wrote t) u || decide (u = κ0))) := fun u hu => xb_or (by omega) hu
  refine ⟨C, T, ⟨V.1, V.2.1, V.2.2.1, fun u hu h κ hκ hb => ?_, V.2.2.2.2⟩, ⟨B.1, fun u hu κ h8 hκ => ?_, B.2.2⟩, fun u hu h κ hκ hb => ?_, by omega, ?_⟩
  · by_cases e : u = t
    · subst e
      rw [pk_us, ho κ (by omega), Bool.or_eq_false_iff, decide_eq_false_iff_not] at hb
      rw [pk_un (by omega)]
      exact V.2.2.2.1 u hu h κ hκ hb.1
    · rw [pk_un e] at hb
      rw [pk_un (by omega)]
      exact V.2.2.2.1 u hu h κ hκ hb
  · by_cases e : u = t
    · rw [e, pk_us, ho κ hκ, B.2.1 t ht κ h8 hκ, decide_eq_false (by omega)]; rfl
    · rw [pk_un e]; exact B.2.1 u hu κ h8 hκ
  · by_cases e : u = t
    · subst e
      by_cases ek : κ = κ0
      · rw [ek, pk_us, pk_us]
      · rw [pk_us, ho κ (by omega), decide_eq_false ek, Bool.or_false] at hb
        rw [pk_un (by omega), pk_un (by omega)]
        exact D u hu h κ hκ hb
    · rw [pk_un e] at hb
      rw [pk_un (by omega), pk_un (by omega)]
      exact D u hu h κ hκ hb
  · have e := rl_S_upd (bz := b_busy) (wr := a_wrote) (bz' := b_busy) (wr' := upd a_wrote t (a_wrote t ||| ((1 : Int32) <<< (nI κ0 &&& 31)))) ht (fun u hu => rfl) (fun u hu => pk_un hu)
    rw [pk_us] at e
    have q : rl_q (b_busy t) (a_wrote t ||| ((1 : Int32) <<< (nI κ0 &&& 31))) ≤ rl_q (b_busy t) (a_wrote t) + 1 := by
      by_cases hz : b_busy t = 0
      · rw [hz, rl_q0]; omega
      · rw [rl_qn hz, rl_qn hz]
        refine pq_cn_add (i := κ0) 8 (fun j hj ej z => ?_)
        have z' : bt (a_wrote t ||| ((1 : Int32) <<< (nI κ0 &&& 31))) j = true := z
        rw [ho j (by omega), decide_eq_false ej, Bool.or_false] at z'
        exact z'
    omega
theorem rl_clr {t : Nat} (ht : t < 4) : ∀ u, u < 32 → (bt (f_openSet &&& (((1 : Int32) <<< (nI t &&& 31)) ^^^ (-1))) u = true ↔ bt f_openSet u = true ∧ u ≠ t) := by
  intro u hu
  rw [xb_clr (by omega) hu, Bool.and_eq_true, Bool.not_eq_true', decide_eq_false_iff_not]
/-- a transaction closed, and its writes given back -/
theorem rl_F_close {t : Nat} (F : rl_F k f_lastTime f_safeTime f_sealTime f_openSet a_used a_keyOf a_timeOf a_valueOf a_through a_gapLow a_gapHigh a_beganAt a_wrote a_draft g s w b_safe b_sealed b_now b_busy b_sees b_since) (ht : t < 4) : rl_F k f_lastTime f_safeTime f_sealTime (f_openSet &&& (((1 : Int32) <<< (nI t &&& 31)) ^^^ (-1))) a_used a_keyOf a_timeOf a_valueOf a_through a_gapLow a_gapHigh a_beganAt a_wrote a_draft g s w b_safe b_sealed b_now (upd b_busy t 0) b_sees b_since ∧ rl_S (upd b_busy t 0) a_wrote + rl_q (b_busy t) (a_wrote t) = rl_S b_busy a_wrote := by
  obtain ⟨C, T, V, B, D, n1, n2⟩ := F
  have ho := rl_clr (f_openSet := f_openSet) ht
  have oo : ∀ u, u < 4 → bt (f_openSet &&& (((1 : Int32) <<< (nI t &&& 31)) ^^^ (-1))) u = true → bt f_openSet u = true := fun u hu h => ((ho u (by omega)).mp h).1
  have e := rl_S_upd (bz := b_busy) (wr := a_wrote) (bz' := upd b_busy t 0) (wr' := a_wrote) ht (fun u hu => pk_un hu) (fun u hu => rfl)
  rw [pk_us, rl_q0, Nat.add_zero] at e
  refine ⟨⟨C, rl_Tim_op oo T, rl_Vw_op oo V, ⟨fun i hi => ?_, B.2⟩, fun u hu h => D u hu (oo u hu h), n1, by omega⟩, e⟩
  rw [ho i hi, B.1 i hi]
  by_cases e : i = t
  · subst e
    rw [pk_us]
    exact ⟨fun z => absurd rfl z.2, fun z => absurd rfl z.2⟩
  · rw [pk_un e]
    exact ⟨fun z => z.1, fun z => ⟨z, e⟩⟩
theorem rl_F_seal (F : rl_F k f_lastTime f_safeTime f_sealTime f_openSet a_used a_keyOf a_timeOf a_valueOf a_through a_gapLow a_gapHigh a_beganAt a_wrote a_draft g 0 w b_safe b_sealed b_now b_busy b_sees b_since) {sd : Nat → Int32} (h : ∀ κ, κ < 8 → sd κ = b_now κ) : rl_F (k + 4) f_lastTime f_safeTime f_lastTime f_openSet a_used a_keyOf a_timeOf a_valueOf a_through a_gapLow a_gapHigh a_beganAt a_wrote a_draft g (w + 1) 0 b_safe sd b_now b_busy b_sees b_since := by
  obtain ⟨C, T, V, B, D, n1, n2⟩ := F
  obtain ⟨c1, c2, c3, c4, c5, c6⟩ := C
  refine ⟨⟨c1, c2, c3, c4, fun _ => ?_, ?_⟩, ⟨T.1, T.2.1, fun _ => Int.le_refl _, T.2.2.2⟩, ⟨V.1, V.2.1, fun _ κ hκ => by rw [h κ hκ]; exact V.1 κ hκ, V.2.2.2⟩, B, D, by omega, by omega⟩
  · have := pq_cn_le (P := fun i => a_used i ≠ 0 ∧ a_through i = 0 ∧ (a_timeOf i).toInt ≤ f_lastTime.toInt) (Q := fun i => a_used i ≠ 0 ∧ a_through i = 0 ∧ (0 < 0 → f_sealTime.toInt < (a_timeOf i).toInt)) 64 (fun j _ z => ⟨z.1, z.2.1, fun h => absurd h (by omega)⟩)
    omega
  · rw [pq_cn_0 64 (fun j hj z => ?_)]
    · omega
    · have h1 := (c4 j hj z.1).2.1
      have h2 := z.2.2 (by omega)
      omega
end
theorem i_vc0 : wpX_init (fun u => wpY_init (fun v => i_Rel 0 u v)) := by
  unfold wpX_init wpY_init
  refine rl_in (g := 0) (s := 0) (w := 0) ⟨⟨by omega, fun j hj => absurd hj (by omega), fun i j _ _ h => absurd rfl h, fun i _ h => absurd rfl h, fun h => absurd h (by omega), ?_⟩, ⟨by decide, by decide, fun h => absurd h (by omega), fun t _ h => ?_⟩, ⟨fun κ _ => Or.inr ⟨fun j c => c.2.1.1 rfl, rfl⟩, fun κ _ => Or.inr ⟨fun j c => c.2.1.1 rfl, rfl⟩, fun h => absurd h (by omega), fun t _ h => ?_, fun t _ h => ?_⟩, ⟨fun i hi => ?_, fun t _ κ _ _ => b_0 κ, fun t _ κ _ _ => b_0 κ⟩, fun t _ h => ?_, by decide, ?_⟩
  · rw [pq_cn_0 64 (fun j _ z => z.1 rfl)]
    omega
  · exact absurd h (rl_n0 t)
  · exact absurd h (rl_n0 t)
  · exact absurd h (rl_n0 t)
  · rw [b_0]
    exact ⟨fun z => absurd z (by decide), fun z => absurd rfl z.2⟩
  · exact absurd h (rl_n0 t)
  · have : rl_S (fun _ => 0) (fun _ => 0) = 0 := by
      unfold rl_S
      rw [rl_q0]
    rw [this]
    omega
theorem i_vc_begin {k : Nat} {u : SX} {v : SY} (I : i_Rel k u v) (hk : k + 4 ≤ 2048) : wpX_begin (fun r u' => wpY_begin (fun r' v' => r' = r ∧ i_Rel (k + 4) u' v') v) u := by
  refine rl_el (P := fun u v => wpX_begin (fun r u' => wpY_begin (fun r' v' => r' = r ∧ i_Rel (k + 4) u' v') v) u) I ?_
  intro f_lastTime f_safeTime f_sealTime f_commitCount f_sealCount f_safeCount f_openSet a_used a_keyOf a_timeOf a_valueOf a_through a_gapLow a_gapHigh a_beganAt a_wrote a_draft g s w b_safe b_sealed b_now b_busy b_sees b_since F
  obtain ⟨t, ht, hb, hf⟩ := rl_first b_busy
  refine xw_begin ht (fun q hq => (F.2.2.2.1.1 q (by omega)).mpr ⟨by omega, hb q hq⟩) (fun h => rl_bf (fun z => rl_ob F h z (hf h))) (fun e => ?_) (fun h => ?_)
  · exact yw_begin ht hb hf (fun _ => ⟨rfl, rl_in (rl_up F)⟩) (fun h => absurd h (by omega))
  · exact yw_begin ht hb hf (fun e => absurd e (by omega)) (fun _ se h1 h2 => ⟨rfl, rl_in (rl_F_begin F h (hf h) h1 h2)⟩)
theorem i_vc_write {k : Nat} {u : SX} {v : SY} (I : i_Rel k u v) (hk : k + 4 ≤ 2048) (v1 : Int32) (v2 : Int32) (v3 : Int32) : wpX_write (fun r u' => wpY_write (fun r' v' => r' = r ∧ i_Rel (k + 4) u' v') v v1 v2 v3) u v1 v2 v3 := by
  refine rl_el (P := fun u v => wpX_write (fun r u' => wpY_write (fun r' v' => r' = r ∧ i_Rel (k + 4) u' v') v v1 v2 v3) u v1 v2 v3) I ?_
  intro f_lastTime f_safeTime f_sealTime f_commitCount f_sealCount f_safeCount f_openSet a_used a_keyOf a_timeOf a_valueOf a_through a_gapLow a_gapHigh a_beganAt a_wrote a_draft g s w b_safe b_sealed b_now b_busy b_sees b_since F
  unfold wpX_write wpY_write
  have bad : v1 < 0 ∨ nI 4 ≤ v1 → wpX_write (fun r u' => wpY_write (fun r' v' => r' = r ∧ i_Rel (k + 4) u' v') (f_safeCount, f_sealCount, f_commitCount, nI s, nI w, b_safe, b_sealed, b_now, b_busy, b_sees, a_wrote, b_since) v1 v2 v3) (nI g, f_lastTime, f_safeTime, f_sealTime, nI s, nI w, f_commitCount, f_sealCount, f_safeCount, f_openSet, a_used, a_keyOf, a_timeOf, a_valueOf, a_through, a_gapLow, a_gapHigh, a_beganAt, a_wrote, a_draft) v1 v2 v3 := by
    intro h
    unfold wpX_write wpY_write
    exact xw_open_o h (br_t rfl (yw_open_o h (br_t rfl ⟨rfl, rl_in (rl_up F)⟩)))
  rcases pk_ix v1 (n := 4) (by omega) with h | h | ⟨t, ht, rfl⟩
  · exact bad (Or.inl h)
  · exact bad (Or.inr h)
  by_cases ho : bt f_openSet t = true
  · refine xw_open_t ht ho (br_f (by decide) ?_)
    have badk : v2 < 0 ∨ nI 8 ≤ v2 → wpY_write (fun r' v' => r' = -1 ∧ i_Rel (k + 4) (nI g, f_lastTime, f_safeTime, f_sealTime, nI s, nI w, f_commitCount, f_sealCount, f_safeCount, f_openSet, a_used, a_keyOf, a_timeOf, a_valueOf, a_through, a_gapLow, a_gapHigh, a_beganAt, a_wrote, a_draft) v') (f_safeCount, f_sealCount, f_commitCount, nI s, nI w, b_safe, b_sealed, b_now, b_busy, b_sees, a_wrote, b_since) (nI t) v2 v3 := by
      intro h
      unfold wpY_write
      exact yw_open_t ht (rl_ob F ht ho) (br_f (by decide) (yw_isKey_o h (br_t rfl ⟨rfl, rl_in (rl_up F)⟩)))
    rcases pk_ix v2 (n := 8) (by omega) with h | h | ⟨κ, hκ, rfl⟩
    · exact xw_isKey_o (Or.inl h) (br_t rfl (badk (Or.inl h)))
    · exact xw_isKey_o (Or.inr h) (br_t rfl (badk (Or.inr h)))
    refine xw_isKey_k hκ (br_f (by decide) ?_)
    have hv : vp_in (nI t) 4 := vp_in_nI ht (by omega)
    have hv2 : vp_in (nI (8 * t + κ)) 32 := vp_in_nI (by omega) (by omega)
    have hc : (nI t).toNatClampNeg = t := nI_clamp (by omega)
    have hc2 : (nI (8 * t + κ)).toNatClampNeg = 8 * t + κ := nI_clamp (by omega)
    rw [xw_ix, hc, hc2]
    refine ⟨hv, hv, nm_e ⟨hv2, nm_e ?_⟩⟩
    refine yw_open_t ht (rl_ob F ht ho) (br_f (by decide) (yw_isKey_k hκ (br_f (by decide) ?_)))
    rw [yw_ix, hc2]
    exact ⟨hv2, nm_e ⟨hv, hv, nm_e ⟨rfl, rl_in (rl_F_write F ht hκ)⟩⟩⟩
  · exact xw_open_f ht (rl_bf ho) (br_t rfl (yw_open_f ht (rl_of F ht ho) (br_t rfl ⟨rfl, rl_in (rl_up F)⟩)))
theorem i_vc_read {k : Nat} {u : SX} {v : SY} (I : i_Rel k u v) (hk : k + 4 ≤ 2048) (v1 : Int32) (v2 : Int32) : wpX_read (fun r => wpY_read (fun r' => r' = r ∧ i_Rel (k + 4) u v) v v1 v2) u v1 v2 := by
  refine rl_el (P := fun u v => wpX_read (fun r => wpY_read (fun r' => r' = r ∧ i_Rel (k + 4) u v) v v1 v2) u v1 v2) I ?_
  intro f_lastTime f_safeTime f_sealTime f_commitCount f_sealCount f_safeCount f_openSet a_used a_keyOf a_timeOf a_valueOf a_through a_gapLow a_gapHigh a_beganAt a_wrote a_draft g s w b_safe b_sealed b_now b_busy b_sees b_since F
  have J := rl_in (f_commitCount := f_commitCount) (f_sealCount := f_sealCount) (f_safeCount := f_safeCount) (rl_up F)
  unfold wpX_read wpY_read
  rcases pk_ix v1 (n := 4) (by omega) with h | h | ⟨t, ht, rfl⟩
  · exact xw_open_o (Or.inl h) (br_t rfl (yw_open_o (Or.inl h) (br_t rfl ⟨rfl, J⟩)))
  · exact xw_open_o (Or.inr h) (br_t rfl (yw_open_o (Or.inr h) (br_t rfl ⟨rfl, J⟩)))
  by_cases ho : bt f_openSet t = true
  · have hb := rl_ob F ht ho
    refine xw_open_t ht ho (br_f (by decide) ?_)
    rcases pk_ix v2 (n := 8) (by omega) with h | h | ⟨κ, hκ, rfl⟩
    · exact xw_isKey_o (Or.inl h) (br_t rfl (yw_open_t ht hb (br_f (by decide) (yw_isKey_o (Or.inl h) (br_t rfl ⟨rfl, J⟩)))))
    · exact xw_isKey_o (Or.inr h) (br_t rfl (yw_open_t ht hb (br_f (by decide) (yw_isKey_o (Or.inr h) (br_t rfl ⟨rfl, J⟩)))))
    refine xw_isKey_k hκ (br_f (by decide) ?_)
    have hv : vp_in (nI t) 4 := vp_in_nI ht (by omega)
    have hv2 : vp_in (nI (8 * t + κ)) 32 := vp_in_nI (by omega) (by omega)
    have hc : (nI t).toNatClampNeg = t := nI_clamp (by omega)
    have hc2 : (nI (8 * t + κ)).toNatClampNeg = 8 * t + κ := nI_clamp (by omega)
    have fin : ∀ r, b_sees (8 * t + κ) = r → wpY_isOpen (fun r_1 => (r_1 = 0 → 0 = r ∧ i_Rel (k + 4) (nI g, f_lastTime, f_safeTime, f_sealTime, nI s, nI w, f_commitCount, f_sealCount, f_safeCount, f_openSet, a_used, a_keyOf, a_timeOf, a_valueOf, a_through, a_gapLow, a_gapHigh, a_beganAt, a_wrote, a_draft) (f_safeCount, f_sealCount, f_commitCount, nI s, nI w, b_safe, b_sealed, b_now, b_busy, b_sees, a_wrote, b_since)) ∧ (¬ r_1 = 0 → wpY_isKey (fun r_15 => (r_15 = 0 → 0 = r ∧ i_Rel (k + 4) (nI g, f_lastTime, f_safeTime, f_sealTime, nI s, nI w, f_commitCount, f_sealCount, f_safeCount, f_openSet, a_used, a_keyOf, a_timeOf, a_valueOf, a_through, a_gapLow, a_gapHigh, a_beganAt, a_wrote, a_draft) (f_safeCount, f_sealCount, f_commitCount, nI s, nI w, b_safe, b_sealed, b_now, b_busy, b_sees, a_wrote, b_since)) ∧ (¬ r_15 = 0 → vp_in ((8 * nI t) + nI κ) 32 ∧ (b_sees ((8 * nI t) + nI κ).toNatClampNeg = r ∧ i_Rel (k + 4) (nI g, f_lastTime, f_safeTime, f_sealTime, nI s, nI w, f_commitCount, f_sealCount, f_safeCount, f_openSet, a_used, a_keyOf, a_timeOf, a_valueOf, a_through, a_gapLow, a_gapHigh, a_beganAt, a_wrote, a_draft) (f_safeCount, f_sealCount, f_commitCount, nI s, nI w, b_safe, b_sealed, b_now, b_busy, b_sees, a_wrote, b_since)))) (f_safeCount, f_sealCount, f_commitCount, nI s, nI w, b_safe, b_sealed, b_now, b_busy, b_sees, a_wrote, b_since) (nI κ))) (f_safeCount, f_sealCount, f_commitCount, nI s, nI w, b_safe, b_sealed, b_now, b_busy, b_sees, a_wrote, b_since) (nI t) := by
      intro r hr
      refine yw_open_t ht hb (br_f (by decide) (yw_isKey_k hκ (br_f (by decide) ?_)))
      rw [yw_ix, hc2]
      exact ⟨hv2, hr, J⟩
    rw [hc, xw_ix, hc2]
    refine ⟨hv, ?_⟩
    cases hw : bt (a_wrote t) κ
    · refine br_t (xb_f (by omega) hw) ⟨hv, ?_⟩
      exact xw_valueAt F.1.1 F.1.2.2.1 (F.2.2.1.2.2.2.1 t ht ho κ hκ hw) (fin _ rfl)
    · refine br_f (xb_tn (by omega) hw) ⟨hv2, ?_⟩
      exact fin _ (F.2.2.2.2.1 t ht ho κ hκ hw).symm
  · exact xw_open_f ht (rl_bf ho) (br_t rfl (yw_open_f ht (rl_of F ht ho) (br_t rfl ⟨rfl, J⟩)))
theorem i_vc_abort {k : Nat} {u : SX} {v : SY} (I : i_Rel k u v) (hk : k + 4 ≤ 2048) (v1 : Int32) : wpX_abort (fun r u' => wpY_abort (fun r' v' => r' = r ∧ i_Rel (k + 4) u' v') v v1) u v1 := by
  refine rl_el (P := fun u v => wpX_abort (fun r u' => wpY_abort (fun r' v' => r' = r ∧ i_Rel (k + 4) u' v') v v1) u v1) I ?_
  intro f_lastTime f_safeTime f_sealTime f_commitCount f_sealCount f_safeCount f_openSet a_used a_keyOf a_timeOf a_valueOf a_through a_gapLow a_gapHigh a_beganAt a_wrote a_draft g s w b_safe b_sealed b_now b_busy b_sees b_since F
  unfold wpX_abort wpY_abort
  rcases pk_ix v1 (n := 4) (by omega) with h | h | ⟨t, ht, rfl⟩
  · exact xw_open_o (Or.inl h) (br_t rfl (yw_open_o (Or.inl h) (br_t rfl ⟨rfl, rl_in (rl_up F)⟩)))
  · exact xw_open_o (Or.inr h) (br_t rfl (yw_open_o (Or.inr h) (br_t rfl ⟨rfl, rl_in (rl_up F)⟩)))
  by_cases ho : bt f_openSet t = true
  · refine xw_open_t ht ho (br_f (by decide) (nm_e ?_))
    refine yw_open_t ht (rl_ob F ht ho) (br_f (by decide) ⟨vp_in_nI ht (by omega), ?_⟩)
    rw [nI_clamp (n := t) (by omega), xw_b0]
    exact nm_e ⟨rfl, rl_in (rl_up (rl_F_close F ht).1)⟩
  · exact xw_open_f ht (rl_bf ho) (br_t rfl (yw_open_f ht (rl_of F ht ho) (br_t rfl ⟨rfl, rl_in (rl_up F)⟩)))
theorem i_vc_seal {k : Nat} {u : SX} {v : SY} (I : i_Rel k u v) (hk : k + 4 ≤ 2048) : wpX_seal (fun r u' => wpY_seal (fun r' v' => r' = r ∧ i_Rel (k + 4) u' v') v) u := by
  refine rl_el (P := fun u v => wpX_seal (fun r u' => wpY_seal (fun r' v' => r' = r ∧ i_Rel (k + 4) u' v') v) u) I ?_
  intro f_lastTime f_safeTime f_sealTime f_commitCount f_sealCount f_safeCount f_openSet a_used a_keyOf a_timeOf a_valueOf a_through a_gapLow a_gapHigh a_beganAt a_wrote a_draft g s w b_safe b_sealed b_now b_busy b_sees b_since F
  have n2 := F.2.2.2.2.2.2
  unfold wpX_seal wpY_seal
  by_cases h0 : s = 0
  · subst h0
    have h : nI 0 ≤ 0 := by decide
    refine br_t h (br_c (fun e => br_t h (br_t e ⟨rfl, rl_in (rl_up F)⟩)) (fun e => ?_))
    rw [nI_1]
    refine nm_e (br_t h (br_f e (nm_r (nI_1 w) ⟨9, yw_seal_l (fun sd hsd => ⟨rfl, rl_in (rl_F_seal F hsd)⟩) 9 0 b_sealed (by omega) (by omega) (fun κ hκ => absurd hκ (by omega))⟩)))
  · have h : ¬ nI s ≤ 0 := nI_nle (by omega) (by omega)
    exact br_f h (br_f h ⟨rfl, rl_in (rl_up F)⟩)
theorem i_vc_stepsLeft {k : Nat} {u : SX} {v : SY} (I : i_Rel k u v) (hk : k + 4 ≤ 2048) : wpX_stepsLeft (fun r => wpY_stepsLeft (fun r' => r' = r ∧ i_Rel (k + 4) u v) v) u := by
  refine rl_el (P := fun u v => wpX_stepsLeft (fun r => wpY_stepsLeft (fun r' => r' = r ∧ i_Rel (k + 4) u v) v) u) I ?_
  intro f_lastTime f_safeTime f_sealTime f_commitCount f_sealCount f_safeCount f_openSet a_used a_keyOf a_timeOf a_valueOf a_through a_gapLow a_gapHigh a_beganAt a_wrote a_draft g s w b_safe b_sealed b_now b_busy b_sees b_since F
  exact ⟨rfl, rl_in (rl_up F)⟩
theorem i_vc_commits {k : Nat} {u : SX} {v : SY} (I : i_Rel k u v) (hk : k + 4 ≤ 2048) : wpX_commits (fun r => wpY_commits (fun r' => r' = r ∧ i_Rel (k + 4) u v) v) u := by
  refine rl_el (P := fun u v => wpX_commits (fun r => wpY_commits (fun r' => r' = r ∧ i_Rel (k + 4) u v) v) u) I ?_
  intro f_lastTime f_safeTime f_sealTime f_commitCount f_sealCount f_safeCount f_openSet a_used a_keyOf a_timeOf a_valueOf a_through a_gapLow a_gapHigh a_beganAt a_wrote a_draft g s w b_safe b_sealed b_now b_busy b_sees b_since F
  exact ⟨rfl, rl_in (rl_up F)⟩
theorem i_vc_durable {k : Nat} {u : SX} {v : SY} (I : i_Rel k u v) (hk : k + 4 ≤ 2048) : wpX_durable (fun r => wpY_durable (fun r' => r' = r ∧ i_Rel (k + 4) u v) v) u := by
  refine rl_el (P := fun u v => wpX_durable (fun r => wpY_durable (fun r' => r' = r ∧ i_Rel (k + 4) u v) v) u) I ?_
  intro f_lastTime f_safeTime f_sealTime f_commitCount f_sealCount f_safeCount f_openSet a_used a_keyOf a_timeOf a_valueOf a_through a_gapLow a_gapHigh a_beganAt a_wrote a_draft g s w b_safe b_sealed b_now b_busy b_sees b_since F
  exact ⟨rfl, rl_in (rl_up F)⟩
theorem i_vc_value {k : Nat} {u : SX} {v : SY} (I : i_Rel k u v) (hk : k + 4 ≤ 2048) (v1 : Int32) : wpX_value (fun r => wpY_value (fun r' => r' = r ∧ i_Rel (k + 4) u v) v v1) u v1 := by
  refine rl_el (P := fun u v => wpX_value (fun r => wpY_value (fun r' => r' = r ∧ i_Rel (k + 4) u v) v v1) u v1) I ?_
  intro f_lastTime f_safeTime f_sealTime f_commitCount f_sealCount f_safeCount f_openSet a_used a_keyOf a_timeOf a_valueOf a_through a_gapLow a_gapHigh a_beganAt a_wrote a_draft g s w b_safe b_sealed b_now b_busy b_sees b_since F
  unfold wpX_value wpY_value
  rcases pk_ix v1 (n := 8) (by omega) with h | h | ⟨κ, hκ, rfl⟩
  · exact xw_isKey_o (Or.inl h) (br_t rfl (yw_isKey_o (Or.inl h) (br_t rfl ⟨rfl, rl_in (rl_up F)⟩)))
  · exact xw_isKey_o (Or.inr h) (br_t rfl (yw_isKey_o (Or.inr h) (br_t rfl ⟨rfl, rl_in (rl_up F)⟩)))
  refine xw_isKey_k hκ (br_f (by decide) (xw_valueAt F.1.1 F.1.2.2.1 (F.2.2.1.1 κ hκ) ?_))
  refine yw_isKey_k hκ (br_f (by decide) ⟨vp_in_nI hκ (by omega), ?_⟩)
  rw [nI_clamp (n := κ) (by omega)]
  exact ⟨rfl, rl_in (rl_up F)⟩
theorem i_vc_safeValue {k : Nat} {u : SX} {v : SY} (I : i_Rel k u v) (hk : k + 4 ≤ 2048) (v1 : Int32) : wpX_safeValue (fun r => wpY_safeValue (fun r' => r' = r ∧ i_Rel (k + 4) u v) v v1) u v1 := by
  refine rl_el (P := fun u v => wpX_safeValue (fun r => wpY_safeValue (fun r' => r' = r ∧ i_Rel (k + 4) u v) v v1) u v1) I ?_
  intro f_lastTime f_safeTime f_sealTime f_commitCount f_sealCount f_safeCount f_openSet a_used a_keyOf a_timeOf a_valueOf a_through a_gapLow a_gapHigh a_beganAt a_wrote a_draft g s w b_safe b_sealed b_now b_busy b_sees b_since F
  unfold wpX_safeValue wpY_safeValue
  rcases pk_ix v1 (n := 8) (by omega) with h | h | ⟨κ, hκ, rfl⟩
  · exact xw_isKey_o (Or.inl h) (br_t rfl (yw_isKey_o (Or.inl h) (br_t rfl ⟨rfl, rl_in (rl_up F)⟩)))
  · exact xw_isKey_o (Or.inr h) (br_t rfl (yw_isKey_o (Or.inr h) (br_t rfl ⟨rfl, rl_in (rl_up F)⟩)))
  refine xw_isKey_k hκ (br_f (by decide) (xw_valueAt F.1.1 F.1.2.2.1 (F.2.2.1.2.1 κ hκ) ?_))
  refine yw_isKey_k hκ (br_f (by decide) ⟨vp_in_nI hκ (by omega), ?_⟩)
  rw [nI_clamp (n := κ) (by omega)]
  exact ⟨rfl, rl_in (rl_up F)⟩
theorem i_vc_conflicts {k : Nat} {u : SX} {v : SY} (I : i_Rel k u v) (hk : k + 4 ≤ 2048) (v1 : Int32) : wpX_conflicts (fun r => wpY_conflicts (fun r' => r' = r ∧ i_Rel (k + 4) u v) v v1) u v1 := by
  refine rl_el (P := fun u v => wpX_conflicts (fun r => wpY_conflicts (fun r' => r' = r ∧ i_Rel (k + 4) u v) v v1) u v1) I ?_
  intro f_lastTime f_safeTime f_sealTime f_commitCount f_sealCount f_safeCount f_openSet a_used a_keyOf a_timeOf a_valueOf a_through a_gapLow a_gapHigh a_beganAt a_wrote a_draft g s w b_safe b_sealed b_now b_busy b_sees b_since F
  unfold wpX_conflicts wpY_conflicts
  rcases pk_ix v1 (n := 4) (by omega) with h | h | ⟨t, ht, rfl⟩
  · exact xw_open_o (Or.inl h) (br_t rfl (yw_open_o (Or.inl h) (br_t rfl ⟨rfl, rl_in (rl_up F)⟩)))
  · exact xw_open_o (Or.inr h) (br_t rfl (yw_open_o (Or.inr h) (br_t rfl ⟨rfl, rl_in (rl_up F)⟩)))
  by_cases ho : bt f_openSet t = true
  · have hv : vp_in (nI t) 4 := vp_in_nI ht (by omega)
    have hc : (nI t).toNatClampNeg = t := nI_clamp (by omega)
    refine xw_open_t ht ho (br_f (by decide) ⟨hv, ?_⟩)
    rw [hc]
    refine rl_chg F ht ho ⟨hv, ?_⟩
    refine yw_open_t ht (rl_ob F ht ho) (br_f (by decide) ⟨hv, hv, ?_⟩)
    exact ⟨Int32.and_comm _ _, rl_in (rl_up F)⟩
  · exact xw_open_f ht (rl_bf ho) (br_t rfl (yw_open_f ht (rl_of F ht ho) (br_t rfl ⟨rfl, rl_in (rl_up F)⟩)))
theorem i_vc_open {k : Nat} {u : SX} {v : SY} (I : i_Rel k u v) (hk : k + 4 ≤ 2048) : wpX_open (fun r => wpY_open (fun r' => r' = r ∧ i_Rel (k + 4) u v) v) u := by
  refine rl_el (P := fun u v => wpX_open (fun r => wpY_open (fun r' => r' = r ∧ i_Rel (k + 4) u v) v) u) I ?_
  intro f_lastTime f_safeTime f_sealTime f_commitCount f_sealCount f_safeCount f_openSet a_used a_keyOf a_timeOf a_valueOf a_through a_gapLow a_gapHigh a_beganAt a_wrote a_draft g s w b_safe b_sealed b_now b_busy b_sees b_since F
  exact yw_open F.2.2.2.1.1 ⟨rfl, rl_in (rl_up F)⟩
end
section
/-! commit -/
/-- the state of the commit's loop at key κ0: the keys below it are entered -/
def rl_CI (t : Nat) (la sa se : Int32) (s w : Nat) (os : Int32) (gl gh bg wr dr nw sf sd sv si : Nat → Int32) (κ0 g : Nat) (us ky tm va th : Nat → Int32) : Prop :=
  rl_Cel la sa se (0 < s) s (w + pq_cn (fun κ => bt (wr t) κ = true) κ0) g us ky tm th gl gh ∧
  (∀ j, j < g → (gh j).toInt < la.toInt) ∧
  (∀ i, i < 64 → us i ≠ 0 → tm i = la → ∃ κ, κ < κ0 ∧ ky i = nI κ) ∧
  rl_Vw (pq_lv us tm g gl gh) ky tm va la sa se (0 < s) (fun u => bt os u = true) bg (fun κ => if κ < κ0 ∧ bt (wr t) κ = true then dr (8 * t + κ) else nw κ) sf sd sv wr (fun u κ => bt (si u) κ = true ∨ (κ < κ0 ∧ bt (wr t) κ = true))
theorem rl_CI_n {t : Nat} {la sa se : Int32} {s w : Nat} {os : Int32} {gl gh bg wr dr nw sf sd sv si : Nat → Int32} {κ0 g : Nat} {us ky tm va th : Nat → Int32} (hb : bt (wr t) κ0 = false) (I : rl_CI t la sa se s w os gl gh bg wr dr nw sf sd sv si κ0 g us ky tm va th) : rl_CI t la sa se s w os gl gh bg wr dr nw sf sd sv si (κ0 + 1) g us ky tm va th := by
  obtain ⟨C, G, Fr, V⟩ := I
  have e : pq_cn (fun κ => bt (wr t) κ = true) (κ0 + 1) = pq_cn (fun κ => bt (wr t) κ = true) κ0 := by
    show pq_cn (fun κ => bt (wr t) κ = true) κ0 + pq_b (bt (wr t) κ0 = true) = _
    rw [pq_b0 (by rw [hb]; decide), Nat.add_zero]
  have st : ∀ κ, (κ < κ0 + 1 ∧ bt (wr t) κ = true) ↔ (κ < κ0 ∧ bt (wr t) κ = true) := by
    intro κ
    refine ⟨fun z => ⟨?_, z.2⟩, fun z => ⟨by omega, z.2⟩⟩
    by_cases ek : κ = κ0
    · rw [ek, hb] at z; exact absurd z.2 (by decide)
    · omega
  refine ⟨by rw [e]; exact C, G, fun i hi hu et => ?_, rl_Vw_c (fun κ _ => ?_) (fun u κ _ _ => ?_) V⟩
  · obtain ⟨κ, hκ, ek⟩ := Fr i hi hu et
    exact ⟨κ, by omega, ek⟩
  · show (if κ < κ0 + 1 ∧ bt (wr t) κ = true then dr (8 * t + κ) else nw κ) = (if κ < κ0 ∧ bt (wr t) κ = true then dr (8 * t + κ) else nw κ)
    simp only [st κ]
  · rw [st κ]
theorem rl_CI_e {nt : Int → Prop} {t : Nat} {la sa se : Int32} {s w : Nat} {os : Int32} {gl gh bg wr dr nw sf sd sv si : Nat → Int32} {κ0 g g' i : Nat} {us us' ky tm va th : Nat → Int32} (hnt : ∀ T, pq_nt la sa se (0 < s) (fun u => bt os u = true) bg T → nt T) (hsa : sa.toInt < la.toInt) (hse : 0 < s → se.toInt < la.toInt) (hbg : ∀ u, u < 4 → bt os u = true → (bg u).toInt < la.toInt) (hκ : κ0 < 8) (hb : bt (wr t) κ0 = true) (R : pq_Rc nt ky tm gl gh g us g' us') (hi : i < 64) (hu : us' i = 0) (I : rl_CI t la sa se s w os gl gh bg wr dr nw sf sd sv si κ0 g us ky tm va th) : rl_CI t la sa se s w os gl gh bg wr dr nw sf sd sv si (κ0 + 1) g' (upd us' i 1) (upd ky i (nI κ0)) (upd tm i la) (upd va i (dr (8 * t + κ0))) (upd th i 0) := by
  obtain ⟨C, G, Fr, V⟩ := I
  have C' := rl_Cel_rc R C
  have V' := rl_Vw_rc hnt R (fun i hi hu => (C.2.2.2.1 i hi hu).2.1) V
  have hg := R.1
  have G' : ∀ j, j < g' → (gh j).toInt < la.toInt := fun j hj => G j (by omega)
  have Fr' : ∀ j, j < 64 → us' j ≠ 0 → ky j = nI κ0 → tm j ≠ la := by
    intro j hj huj hk et
    obtain ⟨κ, hκ', ek⟩ := Fr j hj (R.2.1 j huj) et
    have := (nI_eq (a := κ) (b := κ0) (by omega) (by omega)).mp (ek.symm.trans hk)
    omega
  have e : w + pq_cn (fun κ => bt (wr t) κ = true) (κ0 + 1) = w + pq_cn (fun κ => bt (wr t) κ = true) κ0 + 1 := by
    show w + (pq_cn (fun κ => bt (wr t) κ = true) κ0 + pq_b (bt (wr t) κ0 = true)) = _
    rw [pq_b1 hb, Nat.add_assoc]
  refine ⟨by rw [e]; exact rl_Cel_add hi hu hκ hsa hse Fr' C', G', fun j hj huj et => ?_, rl_Vw_c (fun κ _ => ?_) (fun u κ _ _ => ?_) (rl_Vw_add (v := dr (8 * t + κ0)) hi hu hκ hsa hse hbg G' (fun i hi hu => (C'.2.2.2.1 i hi hu).2.1) V')⟩
  · by_cases ej : j = i
    · subst ej
      exact ⟨κ0, by omega, pk_us⟩
    · rw [pk_un ej] at huj et
      obtain ⟨κ, hκ', ek⟩ := Fr j hj (R.2.1 j huj) et
      exact ⟨κ, by omega, by rw [pk_un ej]; exact ek⟩
  · show (if κ < κ0 + 1 ∧ bt (wr t) κ = true then dr (8 * t + κ) else nw κ) = upd (fun κ => if κ < κ0 ∧ bt (wr t) κ = true then dr (8 * t + κ) else nw κ) κ0 (dr (8 * t + κ0)) κ
    by_cases ek : κ = κ0
    · subst ek
      rw [pk_us, if_pos ⟨by omega, hb⟩]
    · rw [pk_un ek]
      show (if κ < κ0 + 1 ∧ bt (wr t) κ = true then dr (8 * t + κ) else nw κ) = (if κ < κ0 ∧ bt (wr t) κ = true then dr (8 * t + κ) else nw κ)
      have st : (κ < κ0 + 1 ∧ bt (wr t) κ = true) ↔ (κ < κ0 ∧ bt (wr t) κ = true) := ⟨fun z => ⟨by omega, z.2⟩, fun z => ⟨by omega, z.2⟩⟩
      simp only [st]
  · show (bt (si u) κ = true ∨ (κ < κ0 + 1 ∧ bt (wr t) κ = true)) ↔ ((bt (si u) κ = true ∨ (κ < κ0 ∧ bt (wr t) κ = true)) ∨ κ = κ0)
    constructor
    · rintro (z | z)
      · exact Or.inl (Or.inl z)
      · by_cases ek : κ = κ0
        · exact Or.inr ek
        · exact Or.inl (Or.inr ⟨by omega, z.2⟩)
    · rintro ((z | z) | z)
      · exact Or.inl z
      · exact Or.inr ⟨by omega, z.2⟩
      · subst z
        exact Or.inr ⟨by omega, hb⟩
theorem rl_nt {la sa se os : Int32} {s : Nat} {bg : Nat → Int32} (hs : s < 2 ^ 31) : ∀ T, pq_nt la sa se (0 < s) (fun u => bt os u = true) bg T → pq_nt la sa se (¬ nI s ≤ 0) (fun u => bt os u = true) bg T := by
  intro T h
  rcases h with h | h | ⟨h1, h2⟩ | h
  · exact Or.inl h
  · exact Or.inr (Or.inl h)
  · exact Or.inr (Or.inr (Or.inl ⟨nI_nle h1 hs, h2⟩))
  · exact Or.inr (Or.inr (Or.inr h))
section
variable {f_gaps f_lastTime f_safeTime f_sealTime f_steps f_waitingWrites f_commitCount f_sealCount f_safeCount f_openSet : Int32} {a_used a_keyOf a_timeOf a_valueOf a_through a_gapLow a_gapHigh a_beganAt a_wrote a_draft : Nat → Int32} {g_safeCount g_sealedCount g_count g_left g_waitingSteps : Int32} {b_safe b_sealed b_now b_busy b_sees b_wrote b_since : Nat → Int32} {k s w : Nat}
theorem xw_commit_l {post : Int32 → SX → Prop} {t : Nat} (ht : t < 4) (hs : s < 2 ^ 31) (hsa : f_safeTime.toInt < f_lastTime.toInt) (hse : 0 < s → f_sealTime.toInt < f_lastTime.toInt) (hbg : ∀ u, u < 4 → bt f_openSet u = true → (a_beganAt u).toInt < f_lastTime.toInt)
    (hp : ∀ g us ky tm va th, rl_CI t f_lastTime f_safeTime f_sealTime s w f_openSet a_gapLow a_gapHigh a_beganAt a_wrote a_draft b_now b_safe b_sealed b_sees b_since 8 g us ky tm va th → post 0 (nI g, f_lastTime, f_safeTime, f_sealTime, nI s, nI (w + pq_cn (fun κ => bt (a_wrote t) κ = true) 8), f_commitCount + 1, f_sealCount, f_safeCount, f_openSet, us, ky, tm, va, th, a_gapLow, a_gapHigh, a_beganAt, a_wrote, a_draft)) :
    ∀ n i g us ky tm va th, i ≤ 8 → 8 - i < n → rl_CI t f_lastTime f_safeTime f_sealTime s w f_openSet a_gapLow a_gapHigh a_beganAt a_wrote a_draft b_now b_safe b_sealed b_sees b_since i g us ky tm va th → wX_commit_78 post (nI t) n (nI i) (nI g) f_lastTime f_safeTime f_sealTime (nI s) (nI (w + pq_cn (fun κ => bt (a_wrote t) κ = true) i)) f_commitCount f_sealCount f_safeCount f_openSet us ky tm va th a_gapLow a_gapHigh a_beganAt a_wrote a_draft := by
  intro n
  induction n with
  | zero => intro i g us ky tm va th _ h; omega
  | succ n ih =>
    intro i g us ky tm va th hi hn I
    rw [wX_commit_78]
    refine pk_le 8 i (fun h => ?_) (fun h => ?_)
    · have e : i = 8 := by omega
      subst e
      exact nm_e (hp g us ky tm va th I)
    · have hv : vp_in (nI t) 4 := vp_in_nI ht (by omega)
      have hv2 : vp_in (nI (8 * t + i)) 32 := vp_in_nI (by omega) (by omega)
      have hc : (nI t).toNatClampNeg = t := nI_clamp (by omega)
      have hc2 : (nI (8 * t + i)).toNatClampNeg = 8 * t + i := nI_clamp (by omega)
      refine ⟨hv, ?_⟩
      rw [hc, xw_ix, hc2]
      cases hb : bt (a_wrote t) i
      · refine br_t (xb_f (by omega) hb) (fun x hx => ?_)
        rw [hx, nI_1]
        have e : pq_cn (fun κ => bt (a_wrote t) κ = true) (i + 1) = pq_cn (fun κ => bt (a_wrote t) κ = true) i := by
          show pq_cn (fun κ => bt (a_wrote t) κ = true) i + pq_b (bt (a_wrote t) i = true) = _
          rw [pq_b0 (by rw [hb]; decide), Nat.add_zero]
        rw [← e]
        exact ih (i + 1) g us ky tm va th (by omega) (by omega) (rl_CI_n hb I)
      · refine br_f (xb_tn (by omega) hb) ⟨hv2, ?_⟩
        refine xw_enter I.1.1 h I.1.2.2.1 (fun j hj hu => (I.1.2.2.2.1 j hj hu).1) (fun g' us' q R hq huq => ?_)
        refine nm_e (fun x hx => ?_)
        rw [hx, nI_1, nI_1]
        have e : w + pq_cn (fun κ => bt (a_wrote t) κ = true) i + 1 = w + pq_cn (fun κ => bt (a_wrote t) κ = true) (i + 1) := by
          show _ = w + (pq_cn (fun κ => bt (a_wrote t) κ = true) i + pq_b (bt (a_wrote t) i = true))
          rw [pq_b1 hb, Nat.add_assoc]
        rw [e]
        exact ih (i + 1) g' _ _ _ _ _ (by omega) (by omega) (rl_CI_e (rl_nt hs) hsa hse hbg h hb R hq huq I)
end
theorem rl_inc {x : Int32} (h0 : 0 ≤ x.toInt) (h1 : x.toInt < 2000000) : (x + 1).toInt = x.toInt + 1 := by
  have hn : ¬ x < 0 := by
    rw [Int32.lt_iff_toInt_lt]
    have : (0 : Int32).toInt = 0 := by decide
    omega
  obtain ⟨j, hj, rfl⟩ := nI_of hn
  rw [nI_toInt hj] at h1
  rw [nI_1, nI_toInt (by omega), nI_toInt hj]
  omega
section
variable {f_gaps f_lastTime f_safeTime f_sealTime f_steps f_waitingWrites f_commitCount f_sealCount f_safeCount f_openSet : Int32} {a_used a_keyOf a_timeOf a_valueOf a_through a_gapLow a_gapHigh a_beganAt a_wrote a_draft : Nat → Int32} {g_safeCount g_sealedCount g_count g_left g_waitingSteps : Int32} {b_safe b_sealed b_now b_busy b_sees b_wrote b_since : Nat → Int32} {k g s w : Nat}
/-- the loop's first state -/
theorem rl_CI_0 {t : Nat} {la : Int32} (hla : la.toInt = f_lastTime.toInt + 1) (F : rl_F k f_lastTime f_safeTime f_sealTime f_openSet a_used a_keyOf a_timeOf a_valueOf a_through a_gapLow a_gapHigh a_beganAt a_wrote a_draft g s w b_safe b_sealed b_now b_busy b_sees b_since) : rl_CI t la f_safeTime f_sealTime s w f_openSet a_gapLow a_gapHigh a_beganAt a_wrote a_draft b_now b_safe b_sealed b_sees b_since 0 g a_used a_keyOf a_timeOf a_valueOf a_through := by
  obtain ⟨C, T, V, B, D, n1, n2⟩ := F
  obtain ⟨c1, c2, c3, c4, c5, c6⟩ := C
  refine ⟨⟨c1, fun j hj => ?_, c3, fun i hi hu => ⟨(c4 i hi hu).1, ?_, (c4 i hi hu).2.2⟩, c5, c6⟩, fun j hj => ?_, fun i hi hu et => ?_, ⟨fun κ hκ => ?_, V.2.1, V.2.2.1, V.2.2.2.1, fun u hu h κ hκ => ?_⟩⟩
  · have := c2 j hj
    omega
  · have := (c4 i hi hu).2.1
    omega
  · have := c2 j hj
    omega
  · have := (c4 i hi hu).2.1
    rw [et] at this
    omega
  · show pq_at _ _ _ _ _ _ (if κ < 0 ∧ bt (a_wrote t) κ = true then a_draft (8 * t + κ) else b_now κ)
    rw [if_neg (fun z => absurd z.1 (by omega))]
    refine pq_at_ext (fun j => ?_) (fun j _ => ⟨rfl, rfl⟩) (V.1 κ hκ)
    refine ⟨fun c => ⟨c.1, c.2.1, c.2.2.1, ?_⟩, fun c => ⟨c.1, c.2.1, c.2.2.1, (c4 j c.1 c.2.1.1).2.1⟩⟩
    have := c.2.2.2
    omega
  · refine Iff.trans ?_ (V.2.2.2.2 u hu h κ hκ)
    exact ⟨fun z => z.resolve_right (fun y => absurd y.1 (by omega)), fun z => Or.inl z⟩
/-- the loop's last state is related to the reference's -/
theorem rl_CI_8 {t : Nat} {la : Int32} {g' : Nat} {us ky tm va th nw si : Nat → Int32} (hla : la.toInt = f_lastTime.toInt + 1) (ht : t < 4) (ho : bt f_openSet t = true) (F : rl_F k f_lastTime f_safeTime f_sealTime f_openSet a_used a_keyOf a_timeOf a_valueOf a_through a_gapLow a_gapHigh a_beganAt a_wrote a_draft g s w b_safe b_sealed b_now b_busy b_sees b_since) (hnw : ∀ κ, κ < 8 → nw κ = if bt (a_wrote t) κ = true then b_sees (8 * t + κ) else b_now κ) (hsi : ∀ u, u < 4 → si u = b_since u ||| a_wrote t) (I : rl_CI t la f_safeTime f_sealTime s w (f_openSet &&& (((1 : Int32) <<< (nI t &&& 31)) ^^^ (-1))) a_gapLow a_gapHigh a_beganAt a_wrote a_draft b_now b_safe b_sealed b_sees b_since 8 g' us ky tm va th) : rl_F (k + 4) la f_safeTime f_sealTime (f_openSet &&& (((1 : Int32) <<< (nI t &&& 31)) ^^^ (-1))) us ky tm va th a_gapLow a_gapHigh a_beganAt a_wrote a_draft g' s (w + pq_cn (fun κ => bt (a_wrote t) κ = true) 8) b_safe b_sealed nw (upd b_busy t 0) b_sees si := by
  obtain ⟨F', eS⟩ := rl_F_close F ht
  have hq := rl_ob F ht ho
  have D0 := F.2.2.2.2.1
  obtain ⟨C, T, V, B, D, n1, n2⟩ := F'
  have n2' := F.2.2.2.2.2.2
  rw [rl_qn hq] at eS
  obtain ⟨I1, I2, I3, I4⟩ := I
  have T1 := T.1
  refine ⟨I1, ⟨by omega, ?_, fun h => ?_, fun u hu h => ?_⟩, rl_Vw_c (fun κ hκ => ?_) (fun u κ hu hκ => ?_) I4, ⟨B.1, B.2.1, fun u hu κ h8 hκ => ?_⟩, D, by omega, by omega⟩
  · have := T.2.1
    omega
  · have := T.2.2.1 h
    omega
  · have := T.2.2.2 u hu h
    omega
  · show nw κ = if κ < 8 ∧ bt (a_wrote t) κ = true then a_draft (8 * t + κ) else b_now κ
    rw [hnw κ hκ]
    by_cases hb : bt (a_wrote t) κ = true
    · rw [if_pos hb, if_pos ⟨hκ, hb⟩, D0 t ht ho κ hκ hb]
    · rw [if_neg hb, if_neg (fun z => hb z.2)]
  · show bt (si u) κ = true ↔ (bt (b_since u) κ = true ∨ (κ < 8 ∧ bt (a_wrote t) κ = true))
    rw [hsi u hu, b_or, Bool.or_eq_true]
    exact ⟨fun z => z.elim Or.inl (fun y => Or.inr ⟨hκ, y⟩), fun z => z.elim Or.inl (fun y => Or.inr y.2)⟩
  · rw [hsi u hu, b_or, B.2.2 u hu κ h8 hκ, B.2.1 t ht κ h8 hκ]; rfl
end
theorem i_vc_commit {k : Nat} {u : SX} {v : SY} (I : i_Rel k u v) (hk : k + 4 ≤ 2048) (v1 : Int32) : wpX_commit (fun r u' => wpY_commit (fun r' v' => r' = r ∧ i_Rel (k + 4) u' v') v v1) u v1 := by
  refine rl_el (P := fun u v => wpX_commit (fun r u' => wpY_commit (fun r' v' => r' = r ∧ i_Rel (k + 4) u' v') v v1) u v1) I ?_
  intro f_lastTime f_safeTime f_sealTime f_commitCount f_sealCount f_safeCount f_openSet a_used a_keyOf a_timeOf a_valueOf a_through a_gapLow a_gapHigh a_beganAt a_wrote a_draft g s w b_safe b_sealed b_now b_busy b_sees b_since F
  have n1 := F.2.2.2.2.2.1
  have n2 := F.2.2.2.2.2.2
  unfold wpX_commit wpY_commit
  rcases pk_ix v1 (n := 4) (by omega) with h | h | ⟨t, ht, rfl⟩
  · exact xw_open_o (Or.inl h) (br_t rfl (yw_open_o (Or.inl h) (br_t rfl ⟨rfl, rl_in (rl_up F)⟩)))
  · exact xw_open_o (Or.inr h) (br_t rfl (yw_open_o (Or.inr h) (br_t rfl ⟨rfl, rl_in (rl_up F)⟩)))
  by_cases ho : bt f_openSet t = true
  · have hv : vp_in (nI t) 4 := vp_in_nI ht (by omega)
    have hc : (nI t).toNatClampNeg = t := nI_clamp (by omega)
    have hb := rl_ob F ht ho
    have F1 := (rl_F_close F ht).1
    refine xw_open_t ht ho (br_f (by decide) ⟨hv, ?_⟩)
    rw [hc]
    refine rl_chg F ht ho ⟨hv, ?_⟩
    by_cases hcl : b_since t &&& a_wrote t = 0
    · have hcl' : a_wrote t &&& b_since t = 0 := by rw [Int32.and_comm]; exact hcl
      refine br_t hcl ?_
      unfold wX_commit_35
      refine nm_e (br_t rfl ⟨hv, ?_⟩)
      try rw [hc]
      refine br_c (fun hw => ?_) (fun hw => nm_e ?_)
      · refine yw_open_t ht hb (br_f (by decide) ⟨hv, ?_⟩)
        try rw [hc]
        try rw [xw_b0]
        exact nm_e ⟨hv, hv, br_t hcl' ⟨hv, br_t hw ⟨rfl, rl_in (rl_up F1)⟩⟩⟩
      · have tm := F.2.1
        have t1 := tm.1
        have t2 := tm.2.1
        have hla := rl_inc (x := f_lastTime) (by omega) (by omega)
        refine ⟨9, xw_commit_l (b_now := b_now) (b_safe := b_safe) (b_sealed := b_sealed) (b_sees := b_sees) (b_since := b_since) ht (by omega) (by omega) (fun h => ?_) (fun u hu h => ?_) (fun g' us ky tm va th I8 => ?_) 9 0 g a_used a_keyOf a_timeOf a_valueOf a_through (by omega) (by omega) (rl_CI_0 hla F1)⟩
        · have := tm.2.2.1 h
          omega
        · have := F1.2.1.2.2.2 u hu h
          omega
        · refine yw_open_t ht hb (br_f (by decide) ⟨hv, ?_⟩)
          try rw [hc]
          try rw [xw_b0]
          refine nm_e ⟨hv, hv, br_t hcl' ⟨hv, br_f hw ?_⟩⟩
          exact yw_apply ht (fun nw si hnw hsi => ⟨rfl, rl_in (rl_CI_8 hla ht ho F hnw hsi I8)⟩)
    · have hcl' : ¬ a_wrote t &&& b_since t = 0 := by rw [Int32.and_comm]; exact hcl
      refine br_f hcl ?_
      unfold wX_commit_35
      refine nm_e (br_f (by decide) ?_)
      refine yw_open_t ht hb (br_f (by decide) ⟨hv, ?_⟩)
      try rw [hc]
      try rw [xw_b0]
      exact nm_e ⟨hv, hv, br_f hcl' ⟨rfl, rl_in (rl_up F1)⟩⟩
  · exact xw_open_f ht (rl_bf ho) (br_t rfl (yw_open_f ht (rl_of F ht ho) (br_t rfl ⟨rfl, rl_in (rl_up F)⟩)))
end
section
/-! flush -/
section
variable {f_gaps f_lastTime f_safeTime f_sealTime f_steps f_waitingWrites f_commitCount f_sealCount f_safeCount f_openSet : Int32} {a_used a_keyOf a_timeOf a_valueOf a_through a_gapLow a_gapHigh a_beganAt a_wrote a_draft : Nat → Int32} {g_safeCount g_sealedCount g_count g_left g_waitingSteps : Int32} {b_safe b_sealed b_now b_busy b_sees b_wrote b_since : Nat → Int32} {k g s w : Nat}
theorem xw_flush_l {post : Int32 → SX → Prop} {x1 : Int32} {m : Nat} {t0 : Nat → Int32} (hs : s < 600) (hm : m ≤ s) (hlt : ∀ q, q < m → ¬ x1 ≤ nI q) (hend : m < s → x1 ≤ nI m)
    (hA : m < s → ∀ th, (∀ j, th j = 0 → t0 j = 0) → pq_cn (fun i => a_used i ≠ 0 ∧ th i = 0 ∧ (a_timeOf i).toInt ≤ f_sealTime.toInt) 64 + 1 ≤ s - m → post (nI m) (f_gaps, f_lastTime, f_safeTime, f_sealTime, nI (s - m), f_waitingWrites, f_commitCount, f_sealCount, f_safeCount, f_openSet, a_used, a_keyOf, a_timeOf, a_valueOf, th, a_gapLow, a_gapHigh, a_beganAt, a_wrote, a_draft))
    (hB : m = s → 0 < s → ∀ th, (∀ j, th j = 0 → t0 j = 0) → (∀ j, j < 64 → ¬ (a_used j ≠ 0 ∧ th j = 0 ∧ (a_timeOf j).toInt ≤ f_sealTime.toInt)) → post (nI m) (f_gaps, f_lastTime, f_sealTime, f_sealTime, nI 0, f_waitingWrites, f_commitCount, f_sealCount, f_sealCount, f_openSet, a_used, a_keyOf, a_timeOf, a_valueOf, th, a_gapLow, a_gapHigh, a_beganAt, a_wrote, a_draft)) :
    ∀ n q th, q ≤ m → q < s → m - q + 1 < n → (∀ j, th j = 0 → t0 j = 0) → pq_cn (fun i => a_used i ≠ 0 ∧ th i = 0 ∧ (a_timeOf i).toInt ≤ f_sealTime.toInt) 64 + 1 ≤ s - q → wX_flush_4 post x1 n (nI q) (nI q) f_gaps f_lastTime f_safeTime f_sealTime (nI (s - q)) f_waitingWrites f_commitCount f_sealCount f_safeCount f_openSet a_used a_keyOf a_timeOf a_valueOf th a_gapLow a_gapHigh a_beganAt a_wrote a_draft := by
  intro n
  induction n with
  | zero => intro q th _ _ h; omega
  | succ n ih =>
    intro q th hq hqs hn h1 h2
    rw [wX_flush_4]
    refine br_f (nI_ge (b := 600) (by omega) (by decide)) ?_
    by_cases e : q = m
    · subst e
      exact br_t (hend hqs) (hA hqs th h1 h2)
    · refine br_f (hlt q (by omega)) (br_f (nI_nle (by omega) (by omega)) ?_)
      have e1 : nI (s - q) - 1 = nI (s - (q + 1)) := by
        rw [show s - q = (s - (q + 1)) + 1 by omega, nI_pred]
      refine nm_r e1 (nm_r (nI_1 q) ?_)
      by_cases e2 : s = q + 1
      · have e3 : s - (q + 1) = 0 := by omega
        rw [e3]
        refine br_t rfl (nm_r (nI_1 q) ?_)
        have em : m = q + 1 := by omega
        have fin : post (nI (q + 1)) (f_gaps, f_lastTime, f_sealTime, f_sealTime, nI 0, f_waitingWrites, f_commitCount, f_sealCount, f_sealCount, f_openSet, a_used, a_keyOf, a_timeOf, a_valueOf, th, a_gapLow, a_gapHigh, a_beganAt, a_wrote, a_draft) := by
          have := hB (by omega) (by omega) th h1 (fun j hj z => by
            have := pq_cn_pos (P := fun i => a_used i ≠ 0 ∧ th i = 0 ∧ (a_timeOf i).toInt ≤ f_sealTime.toInt) 64 hj z
            omega)
          rw [em] at this
          exact this
        obtain ⟨n', rfl⟩ : ∃ n', n = n' + 1 := ⟨n - 1, by omega⟩
        rw [wX_flush_4]
        refine br_c (fun _ => fin) (fun _ => br_c (fun _ => fin) (fun _ => br_t (by decide) fin))
      · have hne : ¬ nI (s - (q + 1)) = 0 := nI_ne0 (by omega) (by omega)
        refine br_f hne (xw_wt (fun no => ?_) (fun i hi hc => ?_))
        · refine nm_r (nI_1 q) (ih (q + 1) th (by omega) (by omega) (by omega) h1 ?_)
          rw [pq_cn_0 64 no]
          omega
        · refine nm_r (nI_1 q) (ih (q + 1) (upd th i 1) (by omega) (by omega) (by omega) (fun j hj => ?_) ?_)
          · by_cases ej : j = i
            · rw [ej, pk_us] at hj
              exact absurd hj (by decide)
            · rw [pk_un ej] at hj
              exact h1 j hj
          · have := pq_cn_lt (i := i) (P := fun j => a_used j ≠ 0 ∧ upd th i 1 j = 0 ∧ (a_timeOf j).toInt ≤ f_sealTime.toInt) (Q := fun i => a_used i ≠ 0 ∧ th i = 0 ∧ (a_timeOf i).toInt ≤ f_sealTime.toInt) 64 (fun j _ z => by
              by_cases ej : j = i
              · have z2 := z.2.1
                rw [ej, pk_us] at z2
                exact absurd z2 (by decide)
              · rw [pk_un ej] at z
                exact z) hi hc (fun z => by
              have z2 := z.2.1
              rw [pk_us] at z2
              exact absurd z2 (by decide))
            omega
theorem rl_F_flushA {m : Nat} {th : Nat → Int32} (F : rl_F k f_lastTime f_safeTime f_sealTime f_openSet a_used a_keyOf a_timeOf a_valueOf a_through a_gapLow a_gapHigh a_beganAt a_wrote a_draft g s w b_safe b_sealed b_now b_busy b_sees b_since) (hm : m < s) (h1 : ∀ j, th j = 0 → a_through j = 0) (h2 : pq_cn (fun i => a_used i ≠ 0 ∧ th i = 0 ∧ (a_timeOf i).toInt ≤ f_sealTime.toInt) 64 + 1 ≤ s - m) : rl_F (k + 4) f_lastTime f_safeTime f_sealTime f_openSet a_used a_keyOf a_timeOf a_valueOf th a_gapLow a_gapHigh a_beganAt a_wrote a_draft g (s - m) w b_safe b_sealed b_now b_busy b_sees b_since := by
  obtain ⟨C, T, V, B, D, n1, n2⟩ := F
  obtain ⟨c1, c2, c3, c4, c5, c6⟩ := C
  refine ⟨⟨c1, c2, c3, fun i hi hu => ⟨(c4 i hi hu).1, (c4 i hi hu).2.1, fun z => (c4 i hi hu).2.2 (h1 i z)⟩, fun _ => h2, ?_⟩, ⟨T.1, T.2.1, fun _ => T.2.2.1 (by omega), T.2.2.2⟩, ⟨V.1, V.2.1, fun _ => V.2.2.1 (by omega), V.2.2.2⟩, B, D, by omega, by omega⟩
  have := pq_cn_le (P := fun i => a_used i ≠ 0 ∧ th i = 0 ∧ (0 < s - m → f_sealTime.toInt < (a_timeOf i).toInt)) (Q := fun i => a_used i ≠ 0 ∧ a_through i = 0 ∧ (0 < s → f_sealTime.toInt < (a_timeOf i).toInt)) 64 (fun j _ z => ⟨z.1, h1 j z.2.1, fun _ => z.2.2 (by omega)⟩)
  omega
theorem rl_F_flushB {th sf : Nat → Int32} (F : rl_F k f_lastTime f_safeTime f_sealTime f_openSet a_used a_keyOf a_timeOf a_valueOf a_through a_gapLow a_gapHigh a_beganAt a_wrote a_draft g s w b_safe b_sealed b_now b_busy b_sees b_since) (hs : 0 < s) (h1 : ∀ j, th j = 0 → a_through j = 0) (h2 : ∀ j, j < 64 → ¬ (a_used j ≠ 0 ∧ th j = 0 ∧ (a_timeOf j).toInt ≤ f_sealTime.toInt)) (hsf : ∀ κ, κ < 8 → sf κ = b_sealed κ) : rl_F (k + 4) f_lastTime f_sealTime f_sealTime f_openSet a_used a_keyOf a_timeOf a_valueOf th a_gapLow a_gapHigh a_beganAt a_wrote a_draft g 0 w sf b_sealed b_now b_busy b_sees b_since := by
  obtain ⟨C, T, V, B, D, n1, n2⟩ := F
  obtain ⟨c1, c2, c3, c4, c5, c6⟩ := C
  refine ⟨⟨c1, c2, c3, fun i hi hu => ⟨(c4 i hi hu).1, (c4 i hi hu).2.1, fun z => ?_⟩, fun h => absurd h (by omega), ?_⟩, ⟨T.1, T.2.2.1 hs, fun h => absurd h (by omega), T.2.2.2⟩, ⟨V.1, fun κ hκ => by rw [hsf κ hκ]; exact V.2.2.1 hs κ hκ, fun h => absurd h (by omega), V.2.2.2⟩, B, D, by omega, by omega⟩
  · by_cases h : (a_timeOf i).toInt ≤ f_sealTime.toInt
    · exact absurd ⟨hu, z, h⟩ (h2 i hi)
    · omega
  · have := pq_cn_le (P := fun i => a_used i ≠ 0 ∧ th i = 0 ∧ (0 < 0 → f_sealTime.toInt < (a_timeOf i).toInt)) (Q := fun i => a_used i ≠ 0 ∧ a_through i = 0 ∧ (0 < s → f_sealTime.toInt < (a_timeOf i).toInt)) 64 (fun j hj z => ⟨z.1, h1 j z.2.1, fun _ => by
      by_cases h : (a_timeOf j).toInt ≤ f_sealTime.toInt
      · exact absurd ⟨z.1, z.2.1, h⟩ (h2 j hj)
      · omega⟩)
    omega
end
theorem i_vc_flush {k : Nat} {u : SX} {v : SY} (I : i_Rel k u v) (hk : k + 4 ≤ 2048) (v1 : Int32) : wpX_flush (fun r u' => wpY_flush (fun r' v' => r' = r ∧ i_Rel (k + 4) u' v') v v1) u v1 := by
  refine rl_el (P := fun u v => wpX_flush (fun r u' => wpY_flush (fun r' v' => r' = r ∧ i_Rel (k + 4) u' v') v v1) u v1) I ?_
  intro f_lastTime f_safeTime f_sealTime f_commitCount f_sealCount f_safeCount f_openSet a_used a_keyOf a_timeOf a_valueOf a_through a_gapLow a_gapHigh a_beganAt a_wrote a_draft g s w b_safe b_sealed b_now b_busy b_sees b_since F
  have n2 := F.2.2.2.2.2.2
  have key : ∃ m : Nat, m ≤ s ∧ (v1 < 0 → m = 0) ∧ (∀ q : Nat, q < 2 ^ 31 → v1 = nI q → m = if q ≤ s then q else s) ∧ (∀ q, q < m → ¬ v1 ≤ nI q) ∧ (m < s → v1 ≤ nI m) := by
    by_cases hn : v1 < 0
    · refine ⟨0, by omega, fun _ => rfl, fun q hq e => ?_, fun q hq => absurd hq (by omega), fun _ => ?_⟩
      · rw [e] at hn
        exact absurd hn (nI_pos hq)
      · exact Int32.le_of_lt hn
    · obtain ⟨q, hq, rfl⟩ := nI_of hn
      by_cases hqs : q ≤ s
      · refine ⟨q, hqs, fun z => absurd z hn, fun q' hq' e => ?_, fun q' hq' => nI_ge hq' hq, fun _ => nI_le (Nat.le_refl _) hq⟩
        have := (nI_eq hq hq').mp e
        subst this
        rw [if_pos hqs]
      · refine ⟨s, Nat.le_refl _, fun z => absurd z hn, fun q' hq' e => ?_, fun q' hq' => nI_ge (by omega) hq, fun z => absurd z (by omega)⟩
        have := (nI_eq hq hq').mp e
        subst this
        rw [if_neg hqs]
  obtain ⟨m, hm, k1, k2, k3, k4⟩ := key
  unfold wpX_flush
  by_cases h0 : s = 0
  · subst h0
    have e : m = 0 := by omega
    subst e
    have fin : wpY_flush (fun r' v' => r' = 0 ∧ i_Rel (k + 4) (nI g, f_lastTime, f_safeTime, f_sealTime, nI 0, nI w, f_commitCount, f_sealCount, f_safeCount, f_openSet, a_used, a_keyOf, a_timeOf, a_valueOf, a_through, a_gapLow, a_gapHigh, a_beganAt, a_wrote, a_draft) v') (f_safeCount, f_sealCount, f_commitCount, nI 0, nI w, b_safe, b_sealed, b_now, b_busy, b_sees, a_wrote, b_since) v1 := yw_flush (by omega) hm k1 k2 (fun _ => ⟨rfl, rl_in (rl_up F)⟩) (fun _ z => absurd z (by omega))
    refine ⟨1, ?_⟩
    rw [wX_flush_4]
    exact br_c (fun _ => fin) (fun _ => br_c (fun _ => fin) (fun _ => br_t (by decide) fin))
  · refine ⟨m + 3, xw_flush_l (t0 := a_through) (by omega) hm k3 k4 (fun h th h1 h2 => ?_) (fun e hs th h1 h2 => ?_) (m + 3) 0 a_through (by omega) (by omega) (by omega) (fun _ h => h) (F.1.2.2.2.2.1 (by omega))⟩
    · exact yw_flush (by omega) hm k1 k2 (fun _ => ⟨rfl, rl_in (rl_F_flushA F h h1 h2)⟩) (fun z => absurd z (by omega))
    · exact yw_flush (by omega) hm k1 k2 (fun z => absurd z (by omega)) (fun _ _ sf hsf => ⟨rfl, rl_in (rl_F_flushB F hs h1 h2 hsf)⟩)
end
section
/-! crash -/
/-- what a crash leaves of the cells and gaps -/
def rl_Cr (la sa : Int32) (tm th gl gh : Nat → Int32) (g : Nat) (u0 us : Nat → Int32) (g' : Nat) (gl' gh' : Nat → Int32) : Prop :=
  g' ≤ 4 ∧ (∀ j, j < 64 → us j ≠ 0 → u0 j ≠ 0 ∧ th j ≠ 0) ∧ ((∀ j, j < g → (gh j).toInt ≤ la.toInt) → ∀ j, j < g' → (gh' j).toInt ≤ la.toInt) ∧
  (∀ j, j < 64 → (pq_lv us tm g' gl' gh' j ↔ pq_lv u0 tm g gl gh j ∧ th j ≠ 0 ∧ ¬ (sa.toInt < (tm j).toInt ∧ (tm j).toInt ≤ la.toInt)))
theorem pq_Mk_add {g : Nat} {gl gh : Nat → Int32} {lo hi : Int32} {t : Int} : pq_Mk (g + 1) (upd gl g lo) (upd gh g hi) t ↔ pq_Mk g gl gh t ∨ (lo.toInt < t ∧ t ≤ hi.toInt) := by
  constructor
  · rintro ⟨j, hj, h1, h2⟩
    by_cases e : j = g
    · rw [e, pk_us] at h1 h2
      exact Or.inr ⟨h1, h2⟩
    · rw [pk_un e] at h1 h2
      exact Or.inl ⟨j, by omega, h1, h2⟩
  · rintro (⟨j, hj, h1, h2⟩ | ⟨h1, h2⟩)
    · have e : j ≠ g := by omega
      exact ⟨j, by omega, by rw [pk_un e]; exact h1, by rw [pk_un e]; exact h2⟩
    · exact ⟨g, by omega, by rw [pk_us]; exact h1, by rw [pk_us]; exact h2⟩
section
variable {f_gaps f_lastTime f_safeTime f_sealTime f_steps f_waitingWrites f_commitCount f_sealCount f_safeCount f_openSet : Int32} {a_used a_keyOf a_timeOf a_valueOf a_through a_gapLow a_gapHigh a_beganAt a_wrote a_draft : Nat → Int32} {g_safeCount g_sealedCount g_count g_left g_waitingSteps : Int32} {b_safe b_sealed b_now b_busy b_sees b_wrote b_since : Nat → Int32} {k g s w : Nat}
theorem xw_crash65 {post : SX → Prop} {u0 : Nat → Int32} {g1 : Nat} (hg : g1 < 4) (hgg : g1 ≤ g) (hA : ∀ j, j < 64 → a_used j ≠ 0 → u0 j ≠ 0 ∧ a_through j ≠ 0) (hL : ∀ j, j < 64 → (pq_lv a_used a_timeOf g1 a_gapLow a_gapHigh j ↔ pq_lv u0 a_timeOf g a_gapLow a_gapHigh j ∧ a_through j ≠ 0)) (hp : ∀ us g' gl gh, rl_Cr f_lastTime f_safeTime a_timeOf a_through a_gapLow a_gapHigh g u0 us g' gl gh → post (nI g', f_lastTime, f_safeTime, f_sealTime, f_steps, f_waitingWrites, f_commitCount, f_sealCount, f_safeCount, f_openSet, us, a_keyOf, a_timeOf, a_valueOf, a_through, gl, gh, a_beganAt, a_wrote, a_draft)) : wX_crash_65 post (nI g1) f_lastTime f_safeTime f_sealTime f_steps f_waitingWrites f_commitCount f_sealCount f_safeCount f_openSet a_used a_keyOf a_timeOf a_valueOf a_through a_gapLow a_gapHigh a_beganAt a_wrote a_draft := by
  unfold wX_crash_65
  refine br_c (fun h => ?_) (fun h => ?_)
  · rw [Int32.le_iff_toInt_le] at h
    refine hp a_used g1 a_gapLow a_gapHigh ⟨by omega, hA, fun H j hj => H j (by omega), fun j hj => (hL j hj).trans ?_⟩
    exact ⟨fun z => ⟨z.1, z.2, fun y => by omega⟩, fun z => ⟨z.1, z.2.1⟩⟩
  · rw [Int32.le_iff_toInt_le] at h
    have hv : vp_in (nI g1) 4 := vp_in_nI hg (by omega)
    rw [nI_clamp (n := g1) (by omega)]
    refine ⟨hv, nm_e ⟨hv, nm_e (nm_r (nI_1 g1) ?_)⟩⟩
    refine hp a_used (g1 + 1) _ _ ⟨by omega, hA, fun H j hj => ?_, fun j hj => ?_⟩
    · by_cases e : j = g1
      · rw [e, pk_us]; omega
      · rw [pk_un e]; exact H j (by omega)
    · have h1 := hL j hj
      unfold pq_lv at h1 ⊢
      rw [pq_Mk_add]
      constructor
      · rintro ⟨z1, z2⟩
        have y := h1.mp ⟨z1, fun q => z2 (Or.inl q)⟩
        exact ⟨y.1, y.2, fun q => z2 (Or.inr q)⟩
      · rintro ⟨z1, z2, z3⟩
        have y := h1.mpr ⟨z1, z2⟩
        exact ⟨y.1, fun q => q.elim y.2 z3⟩
theorem xw_crash_l {post : SX → Prop} {u0 : Nat → Int32} (hg : g ≤ 4) (hp : ∀ us g' gl gh, rl_Cr f_lastTime f_safeTime a_timeOf a_through a_gapLow a_gapHigh g u0 us g' gl gh → post (nI g', f_lastTime, f_safeTime, f_sealTime, 0, 0, f_safeCount, f_sealCount, f_safeCount, f_openSet, us, a_keyOf, a_timeOf, a_valueOf, a_through, gl, gh, a_beganAt, a_wrote, a_draft)) : ∀ n i us, i ≤ 64 → 64 - i < n → (∀ j, us j ≠ 0 ↔ u0 j ≠ 0 ∧ ¬ (j < i ∧ a_through j = 0)) → wX_crash_7 post (nI g) f_lastTime f_safeTime f_sealTime f_steps f_waitingWrites f_commitCount f_sealCount f_safeCount f_openSet n (nI i) us a_keyOf a_timeOf a_valueOf a_through a_gapLow a_gapHigh a_beganAt a_wrote a_draft := by
  intro n
  induction n with
  | zero => intro i us _ h; omega
  | succ n ih =>
    intro i us hi hn hj
    rw [wX_crash_7]
    refine pk_le 64 i (fun h => ?_) (fun h => ?_)
    · have e : i = 64 := by omega
      subst e
      have A : ∀ j, j < 64 → us j ≠ 0 → u0 j ≠ 0 ∧ a_through j ≠ 0 := fun j hj64 z => ⟨((hj j).mp z).1, fun q => ((hj j).mp z).2 ⟨hj64, q⟩⟩
      refine pk_lt g 4 (fun h4 => ?_) (fun h4 => ?_)
      · refine xw_crash65 h4 (Nat.le_refl g) A (fun j hj64 => ?_) hp
        unfold pq_lv
        rw [hj j]
        exact ⟨fun z => ⟨⟨z.1.1, z.2⟩, fun q => z.1.2 ⟨hj64, q⟩⟩, fun z => ⟨⟨z.1.1, fun q => z.2 q.2⟩, z.1.2⟩⟩
      · refine xw_drop hg (fun us2 h2 => ?_)
        refine xw_crash65 (g1 := 0) (by omega) (Nat.zero_le g) (fun j hj64 z => A j hj64 ((h2 j).mp z).1) (fun j hj64 => ?_) hp
        unfold pq_lv
        rw [h2 j, hj j]
        constructor
        · rintro ⟨⟨⟨z1, z2⟩, z3⟩, _⟩
          exact ⟨⟨z1, fun q => z3 ⟨hj64, q⟩⟩, fun q => z2 ⟨hj64, q⟩⟩
        · rintro ⟨⟨z1, z2⟩, z3⟩
          exact ⟨⟨⟨z1, fun q => z3 q.2⟩, fun q => z2 q.2⟩, fun ⟨j, hj, _⟩ => absurd hj (by omega)⟩
    · have hv : vp_in (nI i) 64 := vp_in_nI (by omega) (by omega)
      have hcl : (nI i).toNatClampNeg = i := nI_clamp (by omega)
      refine ⟨hv, ?_⟩
      rw [hcl]
      refine br_c (fun ht => ⟨hv, nm_e (fun x hx => ?_)⟩) (fun ht x hx => ?_)
      · rw [hx, nI_1, xw_b0]
        exact ih (i + 1) _ (by omega) (by omega) (pq_out hj ht)
      · rw [hx, nI_1]
        exact ih (i + 1) us (by omega) (by omega) (pq_keep hj (Or.inr ht))
theorem rl_F_crash {us gl gh bz nw : Nat → Int32} {g' : Nat} (F : rl_F k f_lastTime f_safeTime f_sealTime f_openSet a_used a_keyOf a_timeOf a_valueOf a_through a_gapLow a_gapHigh a_beganAt a_wrote a_draft g s w b_safe b_sealed b_now b_busy b_sees b_since) (R : rl_Cr f_lastTime f_safeTime a_timeOf a_through a_gapLow a_gapHigh g a_used us g' gl gh) (hbz : ∀ t, t < 4 → bz t = 0) (hnw : ∀ κ, κ < 8 → nw κ = b_safe κ) : rl_F (k + 4) f_lastTime f_safeTime f_sealTime 0 us a_keyOf a_timeOf a_valueOf a_through gl gh a_beganAt a_wrote a_draft g' 0 0 b_safe b_sealed nw bz b_sees b_since := by
  obtain ⟨C, T, V, B, D, n1, n2⟩ := F
  obtain ⟨c1, c2, c3, c4, c5, c6⟩ := C
  obtain ⟨r1, r2, r3, r4⟩ := R
  have U : pq_Uq (fun i => us i ≠ 0) a_keyOf a_timeOf := fun i j hi hj a b => c3 i j hi hj (r2 i hi a).1 (r2 j hj b).1
  have t2 := T.2.1
  have hs : rl_S bz a_wrote = 0 := by
    unfold rl_S
    rw [hbz 0 (by omega), hbz 1 (by omega), hbz 2 (by omega), hbz 3 (by omega), rl_q0, rl_q0, rl_q0, rl_q0]
  refine ⟨⟨r1, r3 c2, U, fun i hi hu => ?_, fun h => absurd h (by omega), ?_⟩, ⟨T.1, T.2.1, fun h => absurd h (by omega), fun t _ h => absurd h (rl_n0 t)⟩, ⟨fun κ hκ => ?_, fun κ hκ => ?_, fun h => absurd h (by omega), fun t _ h => absurd h (rl_n0 t), fun t _ h => absurd h (rl_n0 t)⟩, ⟨fun i hi => ?_, B.2⟩, fun t _ h => absurd h (rl_n0 t), by omega, by omega⟩
  · obtain ⟨y1, y2⟩ := r2 i hi hu
    exact ⟨(c4 i hi y1).1, (c4 i hi y1).2.1, fun z => absurd z y2⟩
  · rw [pq_cn_0 64 (fun j hj z => (r2 j hj z.1).2 z.2.1)]
    omega
  · rw [hnw κ hκ]
    refine pq_at_ext (fun j => ?_) (fun j _ => ⟨rfl, rfl⟩) (V.2.1 κ hκ)
    constructor
    · rintro ⟨h1, h2, h3, h4⟩
      refine ⟨h1, (r4 j h1).mpr ⟨h2, fun z => ?_, fun z => by omega⟩, h3, by omega⟩
      have := (c4 j h1 h2.1).2.2 z
      omega
    · rintro ⟨h1, h2, h3, h4⟩
      obtain ⟨y1, y2, y3⟩ := (r4 j h1).mp h2
      exact ⟨h1, y1, h3, by omega⟩
  · refine pq_at_ext (fun j => ?_) (fun j _ => ⟨rfl, rfl⟩) (V.2.1 κ hκ)
    constructor
    · rintro ⟨h1, h2, h3, h4⟩
      refine ⟨h1, (r4 j h1).mpr ⟨h2, fun z => ?_, fun z => by omega⟩, h3, h4⟩
      have := (c4 j h1 h2.1).2.2 z
      omega
    · rintro ⟨h1, h2, h3, h4⟩
      obtain ⟨y1, y2, y3⟩ := (r4 j h1).mp h2
      exact ⟨h1, y1, h3, h4⟩
  · exact ⟨fun z => absurd z (rl_n0 i), fun z => absurd (hbz i z.1) z.2⟩
end
theorem i_vc_crash {k : Nat} {u : SX} {v : SY} (I : i_Rel k u v) (hk : k + 4 ≤ 2048) : wpX_crash (fun u' => wpY_crash (fun v' => i_Rel (k + 4) u' v') v) u := by
  refine rl_el (P := fun u v => wpX_crash (fun u' => wpY_crash (fun v' => i_Rel (k + 4) u' v') v) u) I ?_
  intro f_lastTime f_safeTime f_sealTime f_commitCount f_sealCount f_safeCount f_openSet a_used a_keyOf a_timeOf a_valueOf a_through a_gapLow a_gapHigh a_beganAt a_wrote a_draft g s w b_safe b_sealed b_now b_busy b_sees b_since F
  unfold wpX_crash
  refine ⟨65, xw_crash_l (u0 := a_used) F.1.1 (fun us g' gl gh R => ?_) 65 0 a_used (by omega) (by omega) (fun j => ⟨fun z => ⟨z, fun y => absurd y.1 (by omega)⟩, fun z => z.1⟩)⟩
  exact yw_crash (fun bz nw hbz hnw => rl_in (rl_F_crash F R hbz hnw))
end
