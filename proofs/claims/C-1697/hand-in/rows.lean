section
/-! pasted rows (starting text): PURE-ROWS -/
theorem pk_us {f : Nat → Int32} {k : Nat} {x : Int32} : upd f k x k = x := if_pos rfl
theorem pk_un {f : Nat → Int32} {k j : Nat} {x : Int32} (h : j ≠ k) : upd f k x j = f j := if_neg h
theorem pk_sub {a b : Nat} (h : b ≤ a) : nI a - nI b = nI (a - b) := by
  obtain ⟨c, rfl⟩ : ∃ c, a = c + b := ⟨a - b, by omega⟩
  rw [← nI_add, Int32.add_sub_cancel, Nat.add_sub_cancel]
theorem pk_m1 (n : Nat) : nI (n + 1) + (-1) = nI n := by
  rw [← nI_1, Int32.add_assoc, show (1 : Int32) + (-1) = 0 from rfl, Int32.add_zero]
theorem pk_mul (a b : Nat) : nI a * nI b = nI (a * b) := (Int32.ofNat_mul a b).symm
theorem pk_ix (x : Int32) {n : Nat} (hn : n < 2 ^ 31) : x < 0 ∨ nI n ≤ x ∨ ∃ j : Nat, j < n ∧ x = nI j := by
  by_cases h : x < 0
  · exact Or.inl h
  · obtain ⟨j, hj, rfl⟩ := nI_of h
    by_cases h2 : j < n
    · exact Or.inr (Or.inr ⟨j, h2, rfl⟩)
    · exact Or.inr (Or.inl (nI_le (by omega) hj))
theorem pk_le {x y : Int32} {A B : Prop} (a b : Nat) (f : a ≤ b → A) (g : b < a → B) (hx : x = nI a := by rfl) (hy : y = nI b := by rfl) (ha : a < 2 ^ 31 := by omega) (hb : b < 2 ^ 31 := by omega) : (x ≤ y → A) ∧ (¬ x ≤ y → B) := by
  subst hx hy
  rw [nI_leI ha hb]
  exact ⟨f, fun z => g (by omega)⟩
theorem pk_lt {x y : Int32} {A B : Prop} (a b : Nat) (f : a < b → A) (g : b ≤ a → B) (hx : x = nI a := by rfl) (hy : y = nI b := by rfl) (ha : a < 2 ^ 31 := by omega) (hb : b < 2 ^ 31 := by omega) : (x < y → A) ∧ (¬ x < y → B) := by
  subst hx hy
  rw [nI_ltI ha hb]
  exact ⟨f, fun z => g (by omega)⟩
theorem pk_eq {x y : Int32} {A B : Prop} (a b : Nat) (f : a = b → A) (g : a ≠ b → B) (hx : x = nI a := by rfl) (hy : y = nI b := by rfl) (ha : a < 2 ^ 31 := by omega) (hb : b < 2 ^ 31 := by omega) : (x = y → A) ∧ (¬ x = y → B) := by
  subst hx hy
  rw [nI_eq ha hb]
  exact ⟨f, g⟩
theorem pk_in {x : Int32} (n N : Nat) (h : n < N) (hx : x = nI n := by rfl) (hN : N < 2 ^ 31 := by omega) : vp_in x N := by
  subst hx
  exact vp_in_nI h hN
theorem pk_cl {x : Int32} (n : Nat) (hx : x = nI n := by rfl) (h : n < 2 ^ 31 := by omega) : x.toNatClampNeg = n := by
  subst hx
  exact nI_clamp h
theorem pk_vb (z : Int32) : vp_nar .byte z.toInt8.toInt32 = z.toInt8.toInt32 := by rw [vp_nar_byte]; simp
theorem pk_least (P : Nat → Prop) (h : ∃ k, P k) : ∃ k, P k ∧ ∀ j, j < k → ¬ P j := by
  obtain ⟨k, hk⟩ := h
  induction k using Nat.strongRecOn with
  | ind k ih =>
    by_cases e : ∃ j, j < k ∧ P j
    · obtain ⟨j, hj, pj⟩ := e
      exact ih j hj pj
    · exact ⟨k, hk, fun j hj pj => e ⟨j, hj, pj⟩⟩
theorem ek_if {c d A B : Prop} (e : c ↔ d) (f : d → A) (g : ¬ d → B) : (c → A) ∧ (¬ c → B) :=
  ⟨fun z => f (e.mp z), fun z => g (fun y => z (e.mpr y))⟩
theorem ek_v {α : Sort _} {P : α → Prop} {a b : α} (e : a = b) (h : P b) : P a := e ▸ h
/-! pasted rows (starting text): BITS, first family -/
def bt (x : Int32) (i : Nat) : Bool := x.toBitVec.getLsbD i
theorem b_ext {x y : Int32} (h : ∀ i, i < 32 → bt x i = bt y i) : x = y := Int32.toBitVec_inj.mp (BitVec.eq_of_getLsbD_eq (fun i hi => h i hi))
theorem b_or (x y : Int32) (i : Nat) : bt (x ||| y) i = (bt x i || bt y i) := by unfold bt; rw [Int32.toBitVec_or, BitVec.getLsbD_or]
theorem b_and (x y : Int32) (i : Nat) : bt (x &&& y) i = (bt x i && bt y i) := by unfold bt; rw [Int32.toBitVec_and, BitVec.getLsbD_and]
theorem b_xor (x y : Int32) (i : Nat) : bt (x ^^^ y) i = (bt x i ^^ bt y i) := by unfold bt; rw [Int32.toBitVec_xor, BitVec.getLsbD_xor]
theorem b_big {x : Int32} {i : Nat} (h : 32 ≤ i) : bt x i = false := BitVec.getLsbD_of_ge _ _ h
theorem b_0 (i : Nat) : bt 0 i = false := BitVec.getLsbD_zero
theorem s_l : ∀ n, n < 32 → ((nI n &&& 31).toBitVec.smod 32).toNat = n := by decide +kernel
theorem b_shl (n : Nat) (hn : n < 32) (x : Int32) {i : Nat} (hi : i < 32) : bt (x <<< (nI n &&& 31)) i = (decide (n ≤ i) && bt x (i - n)) := by
  unfold bt
  rw [Int32.toBitVec_shiftLeft]
  show (x.toBitVec <<< ((nI n &&& 31).toBitVec.smod 32).toNat).getLsbD i = _
  rw [s_l n hn, BitVec.getLsbD_shiftLeft]
  rcases Nat.lt_or_ge i n with h | h
  · simp [h, Nat.not_le.mpr h]
  · simp [hi, h, Nat.not_lt.mpr h]
theorem b_sshr (n : Nat) (hn : n < 32) (x : Int32) {i : Nat} (hi : i < 32) : bt (x >>> (nI n &&& 31)) i = if n + i < 32 then bt x (n + i) else bt x 31 := by
  unfold bt
  rw [Int32.toBitVec_shiftRight]
  show (x.toBitVec.sshiftRight ((nI n &&& 31).toBitVec.smod 32).toNat).getLsbD i = _
  rw [s_l n hn, BitVec.getLsbD_sshiftRight, BitVec.msb_eq_getLsbD_last]
  simp [hi]
end
section
/-! THE PURE LAW: a pattern is a row of items; item k can be empty (e k), repeats (r k), has the symbol at place j of the stream (m k j) -/
section PW
/-- a row of length l stands for one item -/
def pw_al (e r : Prop) (l : Nat) : Prop := (l = 0 → e) ∧ (2 ≤ l → r)
/-- the row from f up to q (not included) fits the first k items: by cuts -/
def pw_fit (e r : Nat → Prop) (m : Nat → Nat → Prop) (f : Nat) : Nat → Nat → Prop
  | 0, q => q = f
  | k + 1, q => ∃ s, pw_fit e r m f k s ∧ s ≤ q ∧ pw_al (e k) (r k) (q - s) ∧ ∀ j, s ≤ j → j < q → m k j
/-- after n symbols place k is active, from the beginning f -/
def pw_act (e r : Nat → Prop) (m : Nat → Nat → Prop) (f k n : Nat) : Prop :=
  ∃ s, pw_fit e r m f k s ∧ s < n ∧ pw_al (e k) (r k) (n - s) ∧ ∀ j, s ≤ j → j < n → m k j
/-- items a up to b (not included) can be empty -/
def pw_em (e : Nat → Prop) (a b : Nat) : Prop := ∀ i, a ≤ i → i < b → e i
def pw_fol (e r : Nat → Prop) (j k : Nat) : Prop := (j < k ∧ pw_em e (j + 1) k) ∨ (j = k ∧ r k)
variable {e r : Nat → Prop} {m : Nat → Nat → Prop} {f : Nat}
theorem pw_fit_le : ∀ k q, pw_fit e r m f k q → f ≤ q := by
  intro k
  induction k with
  | zero => intro q h; exact Nat.le_of_eq h.symm
  | succ k ih =>
    intro q h
    obtain ⟨s, h1, h2, _⟩ := h
    exact Nat.le_trans (ih s h1) h2
theorem pw_act_lt {k n : Nat} (h : pw_act e r m f k n) : f < n := by
  obtain ⟨s, h1, h2, _⟩ := h
  exact Nat.lt_of_le_of_lt (pw_fit_le k s h1) h2
theorem pw_act_0 {k : Nat} : ¬ pw_act e r m f k 0 := fun h => absurd (pw_act_lt h) (Nat.not_lt_zero f)
theorem pw_fit_succ {k q : Nat} : pw_fit e r m f (k + 1) q ↔ pw_act e r m f k q ∨ (e k ∧ pw_fit e r m f k q) := by
  constructor
  · intro h
    obtain ⟨s, h1, h2, h3, h4⟩ := h
    by_cases z : s = q
    · subst z
      exact Or.inr ⟨h3.1 (by omega), h1⟩
    · exact Or.inl ⟨s, h1, by omega, h3, h4⟩
  · intro h
    rcases h with h | ⟨he, h⟩
    · obtain ⟨s, h1, h2, h3, h4⟩ := h
      exact ⟨s, h1, by omega, h3, h4⟩
    · exact ⟨q, h, Nat.le_refl q, ⟨fun _ => he, fun z => absurd z (by omega)⟩, fun j a b => absurd a (by omega)⟩
theorem pw_em_0 {a : Nat} : pw_em e a a := fun i h1 h2 => absurd h1 (by omega)
theorem pw_em_s {a k : Nat} (h : a ≤ k) : pw_em e a (k + 1) ↔ e k ∧ pw_em e a k := by
  constructor
  · intro g
    exact ⟨g k h (by omega), fun i h1 h2 => g i h1 (by omega)⟩
  · intro g i h1 h2
    by_cases z : i = k
    · subst z; exact g.1
    · exact g.2 i h1 (by omega)
theorem pw_fit_self {k : Nat} : pw_fit e r m f k f ↔ pw_em e 0 k := by
  induction k with
  | zero => exact ⟨fun _ => pw_em_0, fun _ => rfl⟩
  | succ k ih =>
    rw [pw_fit_succ, pw_em_s (Nat.zero_le k), ih]
    constructor
    · intro h
      rcases h with h | h
      · exact absurd (pw_act_lt h) (Nat.lt_irrefl f)
      · exact h
    · intro h; exact Or.inr h
theorem pw_fit_iff {q : Nat} (hf : f < q) {k : Nat} : pw_fit e r m f k q ↔ ∃ j, j < k ∧ pw_act e r m f j q ∧ pw_em e (j + 1) k := by
  induction k with
  | zero =>
    constructor
    · intro h
      have h' : q = f := h
      omega
    · intro h
      obtain ⟨j, hj, _⟩ := h
      omega
  | succ k ih =>
    rw [pw_fit_succ, ih]
    constructor
    · intro h
      rcases h with h | ⟨he, j, hj, ha, hm⟩
      · exact ⟨k, by omega, h, pw_em_0⟩
      · exact ⟨j, by omega, ha, (pw_em_s (by omega)).mpr ⟨he, hm⟩⟩
    · intro h
      obtain ⟨j, hj, ha, hm⟩ := h
      by_cases z : j = k
      · subst z; exact Or.inl ha
      · have g := (pw_em_s (by omega)).mp hm
        exact Or.inr ⟨g.1, j, by omega, ha, g.2⟩
theorem pw_act_succ {k n : Nat} : pw_act e r m f k (n + 1) ↔ m k n ∧ (pw_fit e r m f k n ∨ (r k ∧ pw_act e r m f k n)) := by
  constructor
  · intro h
    obtain ⟨s, h1, h2, h3, h4⟩ := h
    refine ⟨h4 n (by omega) (by omega), ?_⟩
    by_cases z : s = n
    · subst z; exact Or.inl h1
    · exact Or.inr ⟨h3.2 (by omega), s, h1, by omega, ⟨fun y => absurd y (by omega), fun _ => h3.2 (by omega)⟩, fun j a b => h4 j a (by omega)⟩
  · intro h
    obtain ⟨hn, h | ⟨hr, s, h1, h2, h3, h4⟩⟩ := h
    · refine ⟨n, h, by omega, ⟨fun y => absurd y (by omega), fun y => absurd y (by omega)⟩, fun j a b => ?_⟩
      have z : j = n := by omega
      subst z; exact hn
    · refine ⟨s, h1, by omega, ⟨fun y => absurd y (by omega), fun _ => hr⟩, fun j a b => ?_⟩
      by_cases z : j = n
      · subst z; exact hn
      · exact h4 j a (by omega)
theorem pw_step {k n : Nat} : pw_act e r m f k (n + 1) ↔ m k n ∧ ((f = n ∧ pw_em e 0 k) ∨ ∃ j, pw_act e r m f j n ∧ pw_fol e r j k) := by
  rw [pw_act_succ]
  constructor
  · intro h
    obtain ⟨hn, h | ⟨hr, ha⟩⟩ := h
    · refine ⟨hn, ?_⟩
      have hle := pw_fit_le k n h
      by_cases z : f = n
      · subst z; exact Or.inl ⟨rfl, pw_fit_self.mp h⟩
      · obtain ⟨j, hj, ha, hm⟩ := (pw_fit_iff (by omega)).mp h
        exact Or.inr ⟨j, ha, Or.inl ⟨hj, hm⟩⟩
    · exact ⟨hn, Or.inr ⟨k, ha, Or.inr ⟨rfl, hr⟩⟩⟩
  · intro h
    obtain ⟨hn, ⟨z, hm⟩ | ⟨j, ha, ⟨hj, hm⟩ | ⟨z, hr⟩⟩⟩ := h
    · subst z; exact ⟨hn, Or.inl (pw_fit_self.mpr hm)⟩
    · exact ⟨hn, Or.inl ((pw_fit_iff (pw_act_lt ha)).mpr ⟨j, hj, ha, hm⟩)⟩
    · subst z; exact ⟨hn, Or.inr ⟨hr, ha⟩⟩
theorem pw_mt {z t : Nat} : (f ≤ t ∧ pw_fit e r m f z (t + 1)) ↔ ∃ k, k < z ∧ pw_act e r m f k (t + 1) ∧ pw_em e (k + 1) z := by
  constructor
  · intro h
    exact (pw_fit_iff (by omega)).mp h.2
  · intro h
    obtain ⟨k, hk, ha, hm⟩ := h
    have g := pw_act_lt ha
    exact ⟨by omega, (pw_fit_iff g).mpr ⟨k, hk, ha, hm⟩⟩
theorem pw_fit_cg {m' : Nat → Nat → Prop} : ∀ k q, (∀ i j, j < q → (m i j ↔ m' i j)) → pw_fit e r m f k q → pw_fit e r m' f k q := by
  intro k
  induction k with
  | zero => intro q _ h; exact h
  | succ k ih =>
    intro q g h
    obtain ⟨s, h1, h2, h3, h4⟩ := h
    exact ⟨s, ih s (fun i j hj => g i j (by omega)) h1, h2, h3, fun j a b => (g k j b).mp (h4 j a b)⟩
theorem pw_act_cg {m' : Nat → Nat → Prop} {k n : Nat} (g : ∀ i j, j < n → (m i j ↔ m' i j)) (h : pw_act e r m f k n) : pw_act e r m' f k n := by
  obtain ⟨s, h1, h2, h3, h4⟩ := h
  exact ⟨s, pw_fit_cg k s (fun i j hj => g i j (by omega)) h1, h2, h3, fun j a b => (g k j b).mp (h4 j a b)⟩
end PW
/-! least and greatest, kept as two bytes -/
section RUN
def pw_mm (P : Nat → Prop) (x y : Int32) : Prop := ∃ a b, a < 60 ∧ b < 60 ∧ x = nI a ∧ y = nI b ∧ P a ∧ P b ∧ ∀ f, P f → a ≤ f ∧ f ≤ b
def pw_run (P : Nat → Prop) (x y : Int32) : Prop := (x = 60 ∧ y = -1 ∧ ∀ f, ¬ P f) ∨ pw_mm P x y
def pw_ans (P : Nat → Prop) (x y : Int32) : Prop := (x = -1 ∧ y = -1 ∧ ∀ f, ¬ P f) ∨ pw_mm P x y
theorem pw_cg {P Q : Nat → Prop} (h : ∀ f, P f ↔ Q f) : P = Q := funext fun f => propext (h f)
theorem pw_n60 {a : Nat} (h : a < 60) : ¬ (60 : Int32) ≤ nI a := nI_ge (b := 60) h (by omega)
theorem pw_nm1 {a : Nat} (h : a < 60) : ¬ nI a ≤ (-1 : Int32) := by
  rw [Int32.le_iff_toInt_le, nI_toInt (by omega), show (-1 : Int32).toInt = -1 from by decide]
  omega
theorem pw_nneg {a : Nat} (h : a < 60) : ¬ nI a < (0 : Int32) := nI_pos (by omega)
theorem pw_run_or {P Q : Nat → Prop} {x y a b x' y' : Int32} (h : pw_run P x y) (g : pw_mm Q a b)
    (hx : (x ≤ a ∧ x' = x) ∨ (¬ x ≤ a ∧ x' = a)) (hy : (b ≤ y ∧ y' = y) ∨ (¬ b ≤ y ∧ y' = b)) : pw_run (fun f => P f ∨ Q f) x' y' := by
  obtain ⟨a0, b0, la0, lb0, rfl, rfl, qa, qb, hq⟩ := g
  rcases h with ⟨rfl, rfl, hn⟩ | ⟨a1, b1, la1, lb1, rfl, rfl, pa, pb, hp⟩
  · have ex : x' = nI a0 := by
      rcases hx with ⟨z, _⟩ | ⟨_, z⟩
      · exact absurd z (pw_n60 la0)
      · exact z
    have ey : y' = nI b0 := by
      rcases hy with ⟨z, _⟩ | ⟨_, z⟩
      · exact absurd z (pw_nm1 lb0)
      · exact z
    exact Or.inr ⟨a0, b0, la0, lb0, ex, ey, Or.inr qa, Or.inr qb, fun f hf => hf.elim (fun z => absurd z (hn f)) (hq f)⟩
  · rw [nI_leI (by omega) (by omega)] at hx hy
    rcases hx with ⟨zx, rfl⟩ | ⟨zx, rfl⟩ <;> rcases hy with ⟨zy, rfl⟩ | ⟨zy, rfl⟩
    · exact Or.inr ⟨a1, b1, la1, lb1, rfl, rfl, Or.inl pa, Or.inl pb, fun f hf => hf.elim (hp f) (fun z => ⟨by have := hq f z; omega, by have := hq f z; omega⟩)⟩
    · exact Or.inr ⟨a1, b0, la1, lb0, rfl, rfl, Or.inl pa, Or.inr qb, fun f hf => hf.elim (fun z => ⟨(hp f z).1, by have := hp f z; omega⟩) (fun z => ⟨by have := hq f z; omega, (hq f z).2⟩)⟩
    · exact Or.inr ⟨a0, b1, la0, lb1, rfl, rfl, Or.inr qa, Or.inl pb, fun f hf => hf.elim (fun z => ⟨by have := hp f z; omega, (hp f z).2⟩) (fun z => ⟨(hq f z).1, by have := hq f z; omega⟩)⟩
    · exact Or.inr ⟨a0, b0, la0, lb0, rfl, rfl, Or.inr qa, Or.inr qb, fun f hf => hf.elim (fun z => ⟨by have := hp f z; omega, by have := hp f z; omega⟩) (hq f)⟩
theorem pw_run_mm {P : Nat → Prop} {x y : Int32} (h : pw_run P x y) (g : ∃ f, P f) : pw_mm P x y := by
  rcases h with ⟨_, _, h⟩ | h
  · obtain ⟨f, hf⟩ := g
    exact absurd hf (h f)
  · exact h
end RUN
end
section
/-! BITS, CELLS, BYTES -/
section BW
theorem bw_b1 (i : Nat) : bt 1 i = decide (i = 0) := by
  rcases Nat.lt_or_ge i 32 with h | h
  · exact (by decide +kernel : ∀ i, i < 32 → bt 1 i = decide (i = 0)) i h
  · rw [b_big h, decide_eq_false (by omega)]
theorem bw_63 (i : Nat) : bt 63 i = decide (i < 6) := by
  rcases Nat.lt_or_ge i 32 with h | h
  · exact (by decide +kernel : ∀ i, i < 32 → bt 63 i = decide (i < 6)) i h
  · rw [b_big h, decide_eq_false (by omega)]
theorem bw_0 {i : Nat} : ¬ bt 0 i = true := by rw [b_0]; exact Bool.false_ne_true
theorem bw_val (x : Int32) {n : Nat} (hn : n < 32) : ((x >>> (nI n &&& 31)) &&& 1) = (if bt x n = true then 1 else 0) := by
  apply b_ext
  intro i hi
  rw [b_and, bw_b1]
  by_cases z : i = 0
  · subst z
    rw [b_sshr n hn x hi, Nat.add_zero, if_pos hn]
    cases bt x n
    · rw [if_neg Bool.false_ne_true, b_0]; rfl
    · rw [if_pos rfl, bw_b1]; rfl
  · rw [decide_eq_false z, Bool.and_false]
    by_cases h : bt x n = true
    · rw [if_pos h, bw_b1, decide_eq_false z]
    · rw [if_neg h, b_0]
theorem bw_t0 {x : Int32} {n : Nat} (hn : n < 32) : ((x >>> (nI n &&& 31)) &&& 1) = 0 ↔ ¬ bt x n = true := by
  rw [bw_val x hn]
  by_cases h : bt x n = true
  · rw [if_pos h]
    exact ⟨fun z => absurd z (by decide), fun z => absurd h z⟩
  · rw [if_neg h]
    exact ⟨fun _ => h, fun _ => rfl⟩
theorem bw_t1 {x : Int32} {n : Nat} (hn : n < 32) : ((x >>> (nI n &&& 31)) &&& 1) = 1 ↔ bt x n = true := by
  rw [bw_val x hn]
  by_cases h : bt x n = true
  · rw [if_pos h]
    exact ⟨fun _ => h, fun _ => rfl⟩
  · rw [if_neg h]
    exact ⟨fun z => absurd z (by decide), fun z => absurd z h⟩
theorem bw_or {x y : Int32} {i : Nat} : bt (x ||| y) i = true ↔ bt x i = true ∨ bt y i = true := by rw [b_or, Bool.or_eq_true]
theorem bw_and {x y : Int32} {i : Nat} : bt (x &&& y) i = true ↔ bt x i = true ∧ bt y i = true := by rw [b_and, Bool.and_eq_true]
theorem bw_one {n : Nat} (hn : n < 32) {i : Nat} (hi : i < 32) : bt ((1 : Int32) <<< (nI n &&& 31)) i = true ↔ i = n := by
  rw [b_shl n hn 1 hi, bw_b1, Bool.and_eq_true, decide_eq_true_eq, decide_eq_true_eq]
  omega
theorem bw_own {n : Nat} (hn : n < 32) {i : Nat} (hi : i < 32) : bt ((63 : Int32) <<< (nI n &&& 31)) i = true ↔ n ≤ i ∧ i < n + 6 := by
  rw [b_shl n hn 63 hi, bw_63, Bool.and_eq_true, decide_eq_true_eq, decide_eq_true_eq]
  omega
theorem bw_put {x : Int32} {s : Nat} (hs : s < 32) {n : Nat} (hn : n < 32) {i : Nat} (hi : i < 32) :
    bt (((x >>> (nI s &&& 31)) &&& 1) <<< (nI n &&& 31)) i = true ↔ i = n ∧ bt x s = true := by
  rw [bw_val x hs]
  by_cases h : bt x s = true
  · rw [if_pos h, bw_one hn hi]
    exact ⟨fun z => ⟨z, h⟩, fun z => z.1⟩
  · rw [if_neg h, b_shl n hn 0 hi, b_0, Bool.and_false]
    exact ⟨fun z => absurd z Bool.false_ne_true, fun z => absurd z.2 h⟩
theorem bw_uq {r r' : Int32} {P : Nat → Prop} (h : ∀ i, i < 32 → (bt r i = true ↔ P i)) (h' : ∀ i, i < 32 → (bt r' i = true ↔ P i)) : r' = r :=
  b_ext fun i hi => Bool.eq_iff_iff.mpr ((h' i hi).trans (h i hi).symm)
theorem bw_c6 (p k : Nat) : nI p * 6 + nI k = nI (6 * p + k) := by
  rw [show (6 : Int32) = nI 6 from rfl, pk_mul, nI_add, Nat.mul_comm]
theorem bw_6c (p k : Nat) : 6 * nI p + nI k = nI (6 * p + k) := by
  rw [show (6 : Int32) = nI 6 from rfl, pk_mul, nI_add]
theorem bw_p6 (p : Nat) : nI p * 6 = nI (6 * p) := by
  rw [show (6 : Int32) = nI 6 from rfl, pk_mul, Nat.mul_comm]
theorem bw_c4 (t p : Nat) : nI t * 4 + nI p = nI (4 * t + p) := by
  rw [show (4 : Int32) = nI 4 from rfl, pk_mul, nI_add, Nat.mul_comm]
theorem bw_by : ∀ t, t < 128 → (nI t).toInt8.toInt32 = nI t := by decide +kernel
theorem bw_nb {t : Nat} (h : t < 128) : vp_nar .byte (nI t) = nI t := by rw [vp_nar_byte, bw_by t h]
theorem bw_nbb {t : Nat} (h : t < 128) : vp_nar .byte (nI t).toInt8.toInt32 = nI t := by rw [bw_by t h, bw_nb h]
theorem bw_nm1 : vp_nar .byte (-1) = -1 := by rw [vp_nar_byte]; decide
theorem bw_nm1b : vp_nar .byte (-1 : Int32).toInt8.toInt32 = -1 := by rw [vp_nar_byte]; decide
theorem bw_n60 : vp_nar .byte 60 = 60 := bw_nb (t := 60) (by omega)
theorem bw_bo0 : vp_nar .boolean 0 = 0 := rfl
theorem bw_bo1 : vp_nar .boolean 1 = 1 := rfl
theorem bw_run {P : Nat → Prop} {x y : Int32} (h : pw_run P x y) : vp_nar .byte x = x ∧ vp_nar .byte y = y := by
  rcases h with ⟨rfl, rfl, _⟩ | ⟨a, b, ha, hb, rfl, rfl, _⟩
  · exact ⟨bw_n60, bw_nm1⟩
  · exact ⟨bw_nb (by omega), bw_nb (by omega)⟩
theorem bw_mm {P : Nat → Prop} {x y : Int32} (h : pw_mm P x y) : vp_nar .byte x = x ∧ vp_nar .byte y = y := bw_run (Or.inr h)
theorem bw_cell {i : Nat} (h : i < 24) : ∃ p k, p < 4 ∧ k < 6 ∧ i = 6 * p + k := ⟨i / 6, i % 6, by omega, by omega, by omega⟩
end BW
/-! DATA: what the arrays mean -/
section DW
def dw_E (c : Nat → Int32) (p k : Nat) : Prop := c (6 * p + k) = 1 ∨ c (6 * p + k) = 2
def dw_R (c : Nat → Int32) (p k : Nat) : Prop := c (6 * p + k) = 2 ∨ c (6 * p + k) = 3
def dw_M (s : Nat → Int32) (T : Nat → Nat) (p k j : Nat) : Prop := bt (s (6 * p + k)) (T j) = true
def dw_fit (c s : Nat → Int32) (T : Nat → Nat) (p f k q : Nat) : Prop := pw_fit (dw_E c p) (dw_R c p) (dw_M s T p) f k q
def dw_act (c s : Nat → Int32) (T : Nat → Nat) (p f k n : Nat) : Prop := pw_act (dw_E c p) (dw_R c p) (dw_M s T p) f k n
/-- a match of pattern p from f to t -/
def dw_mt (c s : Nat → Int32) (T Z : Nat → Nat) (p f t : Nat) : Prop := f ≤ t ∧ dw_fit c s T p f (Z p) (t + 1)
def dw_ok (Z : Nat → Nat) (sz ct : Nat → Int32) : Prop :=
  (∀ p, p < 4 → sz p = nI (Z p) ∧ Z p ≤ 6) ∧ (∀ i, i < 24 → ct i = 0 ∨ ct i = 1 ∨ ct i = 2 ∨ ct i = 3)
theorem dw_act_cg {c s : Nat → Int32} {T T' : Nat → Nat} {p f k n : Nat} (g : ∀ j, j < n → T j = T' j) : dw_act c s T p f k n ↔ dw_act c s T' p f k n :=
  ⟨fun h => pw_act_cg (fun i j hj => by unfold dw_M; rw [g j hj]) h, fun h => pw_act_cg (fun i j hj => by unfold dw_M; rw [g j hj]) h⟩
theorem dw_fit_cg {c s : Nat → Int32} {T T' : Nat → Nat} {p f k q : Nat} (g : ∀ j, j < q → T j = T' j) : dw_fit c s T p f k q ↔ dw_fit c s T' p f k q :=
  ⟨fun h => pw_fit_cg k q (fun i j hj => by unfold dw_M; rw [g j hj]) h, fun h => pw_fit_cg k q (fun i j hj => by unfold dw_M; rw [g j hj]) h⟩
end DW
end
section
/-! X: which places come first, follow, come last -/
section XL
variable {ln lk ff fz dn av : Int32} {sz st ct sm fo ea la ne nl eA lA : Nat → Int32}
theorem xw_cbe {post : Int32 → Prop} {i : Nat} (hi : i < 24) (h1 : ct i = 1 ∨ ct i = 2 → post 1) (h0 : ¬ (ct i = 1 ∨ ct i = 2) → post 0) :
    wpX_canBeEmpty post (ln, lk, ff, fz, dn, av, sz, st, ct, sm, fo, ea, la, ne, nl, eA, lA) (nI i) := by
  have c : (nI i).toNatClampNeg = i := nI_clamp (by omega)
  have v : vp_in (nI i) 24 := vp_in_nI hi (by omega)
  unfold wpX_canBeEmpty
  dsimp only
  rw [c]
  exact ⟨v, br_c (fun a => h1 (Or.inl a)) (fun a => ⟨v, br_c (fun b => h1 (Or.inr b)) (fun b => h0 (fun h => h.elim a b))⟩)⟩
theorem xw_rep {post : Int32 → Prop} {i : Nat} (hi : i < 24) (h1 : ct i = 2 ∨ ct i = 3 → post 1) (h0 : ¬ (ct i = 2 ∨ ct i = 3) → post 0) :
    wpX_repeats post (ln, lk, ff, fz, dn, av, sz, st, ct, sm, fo, ea, la, ne, nl, eA, lA) (nI i) := by
  have c : (nI i).toNatClampNeg = i := nI_clamp (by omega)
  have v : vp_in (nI i) 24 := vp_in_nI hi (by omega)
  unfold wpX_repeats
  dsimp only
  rw [c]
  exact ⟨v, br_c (fun a => h1 (Or.inl a)) (fun a => ⟨v, br_c (fun b => h1 (Or.inr b)) (fun b => h0 (fun h => h.elim a b))⟩)⟩
/-- the places of pattern p from item k on that the next symbol can be at -/
def xs_opn (ct : Nat → Int32) (p k z : Nat) (r : Int32) : Prop :=
  ∀ p' k', p' < 4 → k' < 6 → (bt r (6 * p' + k') = true ↔ p' = p ∧ k ≤ k' ∧ k' < z ∧ pw_em (dw_E ct p) k k')
theorem xw_opn8 {post : Int32 → Prop} {p k z : Nat} (hp : p < 4) (hz : sz p = nI z) (hz6 : z ≤ 6) (hpost : ∀ r, xs_opn ct p k z r → post r) :
    ∀ (n i : Nat) (x y : Int32), z < n + i → k ≤ i → i ≤ z → xs_opn ct p k i x →
    ((y = 1 ∧ pw_em (dw_E ct p) k i) ∨ (y = 0 ∧ ¬ pw_em (dw_E ct p) k i)) →
    wX_openFrom_8 post (nI p) ln lk ff fz dn av sz st ct sm fo ea la ne nl eA lA n x y (nI i) := by
  intro n
  induction n with
  | zero => intro i x y h1 h2 h3; omega
  | succ n ih =>
    intro i x y h1 h2 h3 hx hy
    have c : (nI p).toNatClampNeg = p := nI_clamp (by omega)
    rw [wX_openFrom_8]
    dsimp only
    rw [c, hz, bw_c6]
    refine ⟨vp_in_nI hp (by omega), ?_⟩
    by_cases e : i = z
    · subst e
      exact br_t (nI_le (Nat.le_refl _) (by omega)) (hpost x hx)
    · refine br_f (nI_ge (by omega) (by omega)) ?_
      rcases hy with ⟨rfl, hy⟩ | ⟨rfl, hy⟩
      · have hb : xs_opn ct p k (i + 1) (x ||| ((1 : Int32) <<< (nI (6 * p + i) &&& 31))) := by
          intro p' k' a b
          rw [bw_or, hx p' k' a b, bw_one (by omega) (by omega)]
          constructor
          · intro g
            rcases g with ⟨u, v, w, m⟩ | g
            · exact ⟨u, v, by omega, m⟩
            · have e1 : k' = i := by omega
              subst e1
              exact ⟨by omega, h2, by omega, hy⟩
          · intro g
            obtain ⟨u, v, w, m⟩ := g
            by_cases e1 : k' = i
            · exact Or.inr (by omega)
            · exact Or.inl ⟨u, v, by omega, m⟩
        refine br_f (by decide) (nm_e ?_)
        refine xw_cbe (by omega) (fun he => ?_) (fun he => ?_)
        · exact nm_r (nI_1 i) (ih (i + 1) _ _ (by omega) (by omega) (by omega) hb (Or.inl ⟨rfl, (pw_em_s h2).mpr ⟨he, hy⟩⟩))
        · exact nm_r (nI_1 i) (ih (i + 1) _ _ (by omega) (by omega) (by omega) hb (Or.inr ⟨rfl, fun h => he ((pw_em_s h2).mp h).1⟩))
      · refine br_t rfl (hpost x ?_)
        intro p' k' a b
        rw [hx p' k' a b]
        constructor
        · intro g
          obtain ⟨u, v, w, m⟩ := g
          exact ⟨u, v, by omega, m⟩
        · intro g
          obtain ⟨u, v, w, m⟩ := g
          refine ⟨u, v, Nat.lt_of_not_le (fun g => hy (fun j q1 q2 => m j q1 (by omega))), m⟩
theorem xw_opn {post : Int32 → Prop} {p k z : Nat} (hp : p < 4) (hz : sz p = nI z) (hz6 : z ≤ 6) (hk : k ≤ z) (hpost : ∀ r, xs_opn ct p k z r → post r) :
    wpX_openFrom post (ln, lk, ff, fz, dn, av, sz, st, ct, sm, fo, ea, la, ne, nl, eA, lA) (nI p) (nI k) := by
  unfold wpX_openFrom
  dsimp only
  refine ⟨z + 1, xw_opn8 hp hz hz6 hpost (z + 1) k 0 1 (by omega) (by omega) hk ?_ (Or.inl ⟨rfl, pw_em_0⟩)⟩
  intro p' k' _ _
  exact ⟨fun h => absurd h bw_0, fun h => absurd h.2.1 (by omega)⟩
theorem xw_emp2 {post : Int32 → Prop} {p k z : Nat} (hp : p < 4) (hz : sz p = nI z) (hz6 : z ≤ 6) (h1 : pw_em (dw_E ct p) k z → post 1) (h0 : ¬ pw_em (dw_E ct p) k z → post 0) :
    ∀ (n i : Nat), z < n + i → k ≤ i → i ≤ z → pw_em (dw_E ct p) k i → wX_emptyFrom_2 post (nI p) ln lk ff fz dn av sz st ct sm fo ea la ne nl eA lA n (nI i) := by
  intro n
  induction n with
  | zero => intro i h1 h2 h3; omega
  | succ n ih =>
    intro i g1 g2 g3 hy
    have c : (nI p).toNatClampNeg = p := nI_clamp (by omega)
    rw [wX_emptyFrom_2]
    dsimp only
    rw [c, hz, bw_c6]
    refine ⟨vp_in_nI hp (by omega), ?_⟩
    by_cases e : i = z
    · subst e
      exact br_t (nI_le (Nat.le_refl _) (by omega)) (h1 hy)
    · refine br_f (nI_ge (by omega) (by omega)) ?_
      refine xw_cbe (by omega) (fun he => ?_) (fun he => ?_)
      · exact br_f (by decide) (nm_r (nI_1 i) (ih (i + 1) (by omega) (by omega) (by omega) ((pw_em_s g2).mpr ⟨he, hy⟩)))
      · exact br_t rfl (h0 (fun h => he (h i g2 (by omega))))
theorem xw_emp {post : Int32 → Prop} {p k z : Nat} (hp : p < 4) (hz : sz p = nI z) (hz6 : z ≤ 6) (hk : k ≤ z) (h1 : pw_em (dw_E ct p) k z → post 1) (h0 : ¬ pw_em (dw_E ct p) k z → post 0) :
    wpX_emptyFrom post (ln, lk, ff, fz, dn, av, sz, st, ct, sm, fo, ea, la, ne, nl, eA, lA) (nI p) (nI k) := by
  unfold wpX_emptyFrom
  dsimp only
  exact ⟨z + 1, xw_emp2 hp hz hz6 h1 h0 (z + 1) k (by omega) (by omega) hk pw_em_0⟩
/-- the tables of places, for the cells ahead of item K of pattern P -/
def xs_ff (Z : Nat → Nat) (ct : Nat → Int32) (P : Nat) (ff : Int32) : Prop :=
  ∀ p k, p < 4 → k < 6 → (bt ff (6 * p + k) = true ↔ p < P ∧ k < Z p ∧ pw_em (dw_E ct p) 0 k)
def xs_fz (Z : Nat → Nat) (ct : Nat → Int32) (P K : Nat) (fz : Int32) : Prop :=
  ∀ p k, p < 4 → k < 6 → (bt fz (6 * p + k) = true ↔ (p < P ∨ (p = P ∧ k < K)) ∧ k < Z p ∧ pw_em (dw_E ct p) (k + 1) (Z p))
def xs_fo (Z : Nat → Nat) (ct : Nat → Int32) (P K : Nat) (fo : Nat → Int32) : Prop :=
  ∀ p k, (p < P ∨ (p = P ∧ k < K)) → p < 4 → k < Z p → ∀ p' k', p' < 4 → k' < 6 → (bt (fo (6 * p + k)) (6 * p' + k') = true ↔ p' = p ∧ k' < Z p ∧ pw_fol (dw_E ct p) (dw_R ct p) k k')
def xs_lk (Z : Nat → Nat) (ct : Nat → Int32) (ff fz : Int32) (fo : Nat → Int32) : Prop :=
  xs_ff Z ct 4 ff ∧ xs_fz Z ct 4 0 fz ∧ xs_fo Z ct 4 0 fo
theorem xw_lk98 {post : SX → Prop} {J25 : Int32 → Int32 → Int32 → (Nat → Int32) → (Nat → Int32) → (Nat → Int32) → (Nat → Int32) → (Nat → Int32) → (Nat → Int32) → (Nat → Int32) → (Nat → Int32) → (Nat → Int32) → (Nat → Int32) → (Nat → Int32) → Prop} {J47 : Int32 → Int32 → (Nat → Int32) → (Nat → Int32) → (Nat → Int32) → (Nat → Int32) → (Nat → Int32) → (Nat → Int32) → (Nat → Int32) → (Nat → Int32) → (Nat → Int32) → (Nat → Int32) → (Nat → Int32) → Prop} {p k z : Nat} {z0 : Int32}
    (hp : p < 4) (hz : sz p = nI z) (hz6 : z ≤ 6) (hk : k < z)
    (h1 : pw_em (dw_E ct p) (k + 1) z → J47 (nI (k + 1)) (fz ||| ((1 : Int32) <<< (nI (6 * p + k) &&& 31))) sz st ct sm (upd fo (6 * p + k) z0) ea la ne nl eA lA)
    (h0 : ¬ pw_em (dw_E ct p) (k + 1) z → J47 (nI (k + 1)) fz sz st ct sm (upd fo (6 * p + k) z0) ea la ne nl eA lA) :
    wX_link_98 post J25 J47 (nI p) (nI k) (nI (6 * p + k)) z0 (nI (6 * p + k)) ln lk ff fz dn av sz st ct sm fo ea la ne nl eA lA := by
  have c : (nI (6 * p + k)).toNatClampNeg = 6 * p + k := nI_clamp (by omega)
  unfold wX_link_98
  rw [c, nI_1 k]
  refine ⟨vp_in_nI (by omega) (by omega), nm_e ?_⟩
  refine xw_emp hp hz hz6 (by omega) (fun h => ?_) (fun h => ?_)
  · exact br_f (by decide) (nm_e (nm_e (h1 h)))
  · exact br_t rfl (nm_e (h0 h))
/-- one more cell of the last places -/
theorem xw_fz1 {Z : Nat → Nat} {p k : Nat} (hp : p < 4) (hk : k < Z p) (hk6 : k < 6) (he : pw_em (dw_E ct p) (k + 1) (Z p)) (hF : xs_fz Z ct p k fz) :
    xs_fz Z ct p (k + 1) (fz ||| ((1 : Int32) <<< (nI (6 * p + k) &&& 31))) := by
  intro p' k' a b
  rw [bw_or, hF p' k' a b, bw_one (by omega) (by omega)]
  constructor
  · intro g
    rcases g with ⟨u, v, w⟩ | g
    · exact ⟨by omega, v, w⟩
    · have e1 : p' = p := by omega
      have e2 : k' = k := by omega
      subst e1; subst e2
      exact ⟨by omega, hk, he⟩
  · intro g
    obtain ⟨u, v, w⟩ := g
    by_cases q : p' = p ∧ k' = k
    · exact Or.inr (by omega)
    · exact Or.inl ⟨by omega, v, w⟩
theorem xw_fz0 {Z : Nat → Nat} {p k : Nat} (he : ¬ pw_em (dw_E ct p) (k + 1) (Z p)) (hF : xs_fz Z ct p k fz) : xs_fz Z ct p (k + 1) fz := by
  intro p' k' a b
  rw [hF p' k' a b]
  constructor
  · intro g
    obtain ⟨u, v, w⟩ := g
    exact ⟨by omega, v, w⟩
  · intro g
    obtain ⟨u, v, w⟩ := g
    by_cases q : p' = p ∧ k' = k
    · obtain ⟨q1, q2⟩ := q
      subst q1; subst q2
      exact absurd w he
    · exact ⟨by omega, v, w⟩
theorem xw_fo1 {Z : Nat → Nat} {p k : Nat} {z0 : Int32} (hok : dw_ok Z sz ct) (hk6 : k < 6) (hO : xs_fo Z ct p k fo)
    (hz0 : ∀ p' k', p' < 4 → k' < 6 → (bt z0 (6 * p' + k') = true ↔ p' = p ∧ k' < Z p ∧ pw_fol (dw_E ct p) (dw_R ct p) k k')) :
    xs_fo Z ct p (k + 1) (upd fo (6 * p + k) z0) := by
  intro p1 k1 u a b
  by_cases q : p1 = p ∧ k1 = k
  · obtain ⟨q1, q2⟩ := q
    subst q1; subst q2
    rw [pk_us]
    exact hz0
  · have b6 := (hok.1 p1 a).2
    rw [pk_un (by omega)]
    exact hO p1 k1 (by omega) a b
theorem xw_lk47 {post : SX → Prop} {J25 : Int32 → Int32 → Int32 → (Nat → Int32) → (Nat → Int32) → (Nat → Int32) → (Nat → Int32) → (Nat → Int32) → (Nat → Int32) → (Nat → Int32) → (Nat → Int32) → (Nat → Int32) → (Nat → Int32) → (Nat → Int32) → Prop} {Z : Nat → Nat} {p : Nat} (hok : dw_ok Z sz ct) (hp : p < 4)
    (hJ : ∀ fz fo, xs_fz Z ct (p + 1) 0 fz → xs_fo Z ct (p + 1) 0 fo → J25 (nI (p + 1)) ff fz sz st ct sm fo ea la ne nl eA lA) :
    ∀ (n k : Nat) (fz : Int32) (fo : Nat → Int32), Z p < n + k → k ≤ Z p → xs_fz Z ct p k fz → xs_fo Z ct p k fo →
    wX_link_47 post J25 (nI p) ln lk ff dn av n (nI k) fz sz st ct sm fo ea la ne nl eA lA := by
  obtain ⟨hz, hz6⟩ := hok.1 p hp
  intro n
  induction n with
  | zero => intro k fz fo h1 h2; omega
  | succ n ih =>
    intro k fz fo h1 h2 hF hO
    have c : (nI p).toNatClampNeg = p := nI_clamp (by omega)
    rw [wX_link_47]
    dsimp only
    rw [c, hz]
    refine ⟨vp_in_nI hp (by omega), ?_⟩
    by_cases e : k = Z p
    · refine br_t (by rw [e]; exact nI_le (Nat.le_refl _) (by omega)) (nm_r (nI_1 p) (hJ fz fo ?_ ?_))
      · intro p' k' a b
        rw [hF p' k' a b]
        constructor
        · intro g
          obtain ⟨u, v, w⟩ := g
          exact ⟨by omega, v, w⟩
        · intro g
          obtain ⟨u, v, w⟩ := g
          refine ⟨?_, v, w⟩
          by_cases q : p' = p
          · subst q; exact Or.inr ⟨rfl, by omega⟩
          · exact Or.inl (by omega)
      · intro p' k' u a b
        refine hO p' k' ?_ a b
        by_cases q : p' = p
        · subst q; exact Or.inr ⟨rfl, by omega⟩
        · exact Or.inl (by omega)
    · refine br_f (nI_ge (by omega) (by omega)) (nm_r (bw_c6 p k) ?_)
      rw [nI_1 k]
      have hk : k < Z p := by omega
      refine xw_opn hp hz hz6 (by omega) (fun r hr => ?_)
      refine xw_rep (by omega) (fun he => ?_) (fun he => ?_)
      · refine br_f (by decide) ?_
        have ho := xw_fo1 (z0 := r ||| ((1 : Int32) <<< (nI (6 * p + k) &&& 31))) hok (by omega) hO (by
          intro p' k' a b
          rw [bw_or, hr p' k' a b, bw_one (by omega) (by omega)]
          constructor
          · intro g
            rcases g with ⟨u, v, w, y⟩ | g
            · exact ⟨u, w, Or.inl ⟨by omega, y⟩⟩
            · have e1 : p' = p := by omega
              have e2 : k' = k := by omega
              subst e1; subst e2
              exact ⟨rfl, hk, Or.inr ⟨rfl, he⟩⟩
          · intro g
            obtain ⟨u, v, ⟨w, y⟩ | ⟨w, y⟩⟩ := g
            · exact Or.inl ⟨u, by omega, v, y⟩
            · exact Or.inr (by omega))
        exact xw_lk98 hp hz hz6 hk (fun h => ih (k + 1) _ _ (by omega) (by omega) (xw_fz1 hp hk (by omega) h hF) ho) (fun h => ih (k + 1) _ _ (by omega) (by omega) (xw_fz0 h hF) ho)
      · refine br_t rfl ?_
        have ho := xw_fo1 (z0 := r) hok (by omega) hO (by
          intro p' k' a b
          rw [hr p' k' a b]
          constructor
          · intro g
            obtain ⟨u, v, w, y⟩ := g
            exact ⟨u, w, Or.inl ⟨by omega, y⟩⟩
          · intro g
            obtain ⟨u, v, ⟨w, y⟩ | ⟨w, y⟩⟩ := g
            · exact ⟨u, by omega, v, y⟩
            · subst w; exact absurd y he)
        exact xw_lk98 hp hz hz6 hk (fun h => ih (k + 1) _ _ (by omega) (by omega) (xw_fz1 hp hk (by omega) h hF) ho) (fun h => ih (k + 1) _ _ (by omega) (by omega) (xw_fz0 h hF) ho)
theorem xw_lk25 {post : SX → Prop} {Z : Nat → Nat} (hok : dw_ok Z sz ct)
    (hpost : ∀ ff fz fo, xs_lk Z ct ff fz fo → post (ln, lk, ff, fz, dn, av, sz, st, ct, sm, fo, ea, la, ne, nl, eA, lA)) :
    ∀ (n p : Nat) (ff fz : Int32) (fo : Nat → Int32), 4 < n + p → p ≤ 4 → xs_ff Z ct p ff → xs_fz Z ct p 0 fz → xs_fo Z ct p 0 fo →
    wX_link_25 post ln lk dn av n (nI p) ff fz sz st ct sm fo ea la ne nl eA lA := by
  intro n
  induction n with
  | zero => intro p ff fz fo h1 h2; omega
  | succ n ih =>
    intro p ff fz fo h1 h2 hf hF hO
    rw [wX_link_25]
    by_cases e : p = 4
    · subst e
      exact br_t (nI_le (a := 4) (Nat.le_refl _) (by omega)) (hpost ff fz fo ⟨hf, hF, hO⟩)
    · have hp : p < 4 := by omega
      obtain ⟨hz, hz6⟩ := hok.1 p hp
      refine br_f (nI_ge (b := 4) (by omega) (by omega)) ?_
      refine xw_opn (k := 0) hp hz hz6 (by omega) (fun r hr => nm_e ?_)
      have hf' : xs_ff Z ct (p + 1) (ff ||| r) := by
        intro p' k' a b
        rw [bw_or, hf p' k' a b, hr p' k' a b]
        constructor
        · intro g
          rcases g with ⟨u, v, w⟩ | ⟨u, _, v, w⟩
          · exact ⟨by omega, v, w⟩
          · subst u; exact ⟨by omega, v, w⟩
        · intro g
          obtain ⟨u, v, w⟩ := g
          by_cases q : p' = p
          · subst q; exact Or.inr ⟨rfl, by omega, v, w⟩
          · exact Or.inl ⟨by omega, v, w⟩
      exact ⟨Z p + 1, xw_lk47 hok hp (fun fz' fo' g1 g2 => ih (p + 1) (ff ||| r) fz' fo' (by omega) (by omega) hf' g1 g2) (Z p + 1) 0 fz fo (by omega) (by omega) hF hO⟩
theorem xw_link {post : SX → Prop} {Z : Nat → Nat} (hok : dw_ok Z sz ct) (hl : lk = 0 ∨ xs_lk Z ct ff fz fo)
    (hpost : ∀ lk ff fz fo, xs_lk Z ct ff fz fo → post (ln, lk, ff, fz, dn, av, sz, st, ct, sm, fo, ea, la, ne, nl, eA, lA)) : wpX_link post (ln, lk, ff, fz, dn, av, sz, st, ct, sm, fo, ea, la, ne, nl, eA, lA) := by
  unfold wpX_link
  dsimp only
  refine br_c (fun z => ⟨5, ?_⟩) (fun z => ?_)
  · refine xw_lk25 hok (fun ff fz fo h => hpost 1 ff fz fo h) 5 0 0 0 fo (by omega) (by omega) ?_ ?_ ?_
    · intro p k a b
      exact ⟨fun h => absurd h bw_0, fun h => absurd h.1 (by omega)⟩
    · intro p k a b
      exact ⟨fun h => absurd h bw_0, fun h => absurd h.1 (by omega)⟩
    · intro p k u
      exact absurd u (by omega)
  · rcases hl with hl | hl
    · exact absurd hl z
    · exact hpost lk ff fz fo hl
end XL
end
section
/-! X: the places that can be active after one more symbol -/
section XO
variable {ln lk ff fz dn av : Int32} {sz st ct sm fo ea la ne nl eA lA : Nat → Int32}
def xs_pf (Z : Nat → Nat) (st : Nat → Int32) (s P K : Nat) (x : Int32) : Prop :=
  ∀ p k, p < 4 → k < 6 → (bt x (6 * p + k) = true ↔ (p < P ∨ (p = P ∧ k < K)) ∧ k < Z p ∧ bt (st (6 * p + k)) s = true)
theorem xw_pf12 {post : Int32 → Prop} {J4 : Int32 → Int32 → Prop} {Z : Nat → Nat} {p s : Nat} (hok : dw_ok Z sz ct) (hp : p < 4) (hs : s < 32)
    (hJ : ∀ x, xs_pf Z st s (p + 1) 0 x → J4 x (nI (p + 1))) :
    ∀ (n k : Nat) (x : Int32), Z p < n + k → k ≤ Z p → xs_pf Z st s p k x → wX_placesFor_12 post J4 (nI s) (nI p) ln lk ff fz dn av sz st ct sm fo ea la ne nl eA lA n x (nI k) := by
  obtain ⟨hz, hz6⟩ := hok.1 p hp
  intro n
  induction n with
  | zero => intro k x h1 h2; omega
  | succ n ih =>
    intro k x h1 h2 hx
    have c : (nI p).toNatClampNeg = p := nI_clamp (by omega)
    have c2 : (nI (6 * p + k)).toNatClampNeg = 6 * p + k := nI_clamp (by omega)
    rw [wX_placesFor_12]
    dsimp only
    rw [c, hz]
    refine ⟨vp_in_nI hp (by omega), ?_⟩
    by_cases e : k = Z p
    · refine br_t (by rw [e]; exact nI_le (Nat.le_refl _) (by omega)) (nm_r (nI_1 p) (hJ x ?_))
      intro p' k' a b
      rw [hx p' k' a b]
      constructor
      · intro g
        obtain ⟨u, v, w⟩ := g
        exact ⟨by omega, v, w⟩
      · intro g
        obtain ⟨u, v, w⟩ := g
        refine ⟨?_, v, w⟩
        by_cases q : p' = p
        · subst q; exact Or.inr ⟨rfl, by omega⟩
        · exact Or.inl (by omega)
    · refine br_f (nI_ge (by omega) (by omega)) (nm_r (bw_c6 p k) ?_)
      rw [c2]
      refine ⟨vp_in_nI (by omega) (by omega), nm_e (nm_r (nI_1 k) (ih (k + 1) _ (by omega) (by omega) ?_))⟩
      intro p' k' a b
      rw [bw_or, hx p' k' a b, bw_put hs (by omega) (by omega)]
      constructor
      · intro g
        rcases g with ⟨u, v, w⟩ | ⟨g, w⟩
        · exact ⟨by omega, v, w⟩
        · have e1 : p' = p := by omega
          have e2 : k' = k := by omega
          subst e1; subst e2
          exact ⟨by omega, by omega, w⟩
      · intro g
        obtain ⟨u, v, w⟩ := g
        by_cases q : p' = p ∧ k' = k
        · obtain ⟨q1, q2⟩ := q
          subst q1; subst q2
          exact Or.inr ⟨rfl, w⟩
        · exact Or.inl ⟨by omega, v, w⟩
theorem xw_pf4 {post : Int32 → Prop} {Z : Nat → Nat} {s : Nat} (hok : dw_ok Z sz ct) (hs : s < 32) (hpost : ∀ x, xs_pf Z st s 4 0 x → post x) :
    ∀ (n p : Nat) (x : Int32), 4 < n + p → p ≤ 4 → xs_pf Z st s p 0 x → wX_placesFor_4 post (nI s) ln lk ff fz dn av sz st ct sm fo ea la ne nl eA lA n x (nI p) := by
  intro n
  induction n with
  | zero => intro p x h1 h2; omega
  | succ n ih =>
    intro p x h1 h2 hx
    rw [wX_placesFor_4]
    by_cases e : p = 4
    · subst e
      exact br_t (nI_le (a := 4) (Nat.le_refl _) (by omega)) (hpost x hx)
    · exact br_f (nI_ge (b := 4) (by omega) (by omega)) ⟨Z p + 1, xw_pf12 hok (by omega) hs (fun x' hx' => ih (p + 1) x' (by omega) (by omega) hx') (Z p + 1) 0 x (by omega) (by omega) hx⟩
theorem xw_pf {post : Int32 → Prop} {Z : Nat → Nat} {s : Nat} (hok : dw_ok Z sz ct) (hs : s < 32) (hpost : ∀ x, xs_pf Z st s 4 0 x → post x) :
    wpX_placesFor post (ln, lk, ff, fz, dn, av, sz, st, ct, sm, fo, ea, la, ne, nl, eA, lA) (nI s) := by
  unfold wpX_placesFor
  dsimp only
  refine ⟨5, xw_pf4 hok hs hpost 5 0 0 (by omega) (by omega) ?_⟩
  intro p k a b
  exact ⟨fun h => absurd h bw_0, fun h => absurd h.1 (by omega)⟩
def xs_on (Z : Nat → Nat) (st : Nat → Int32) (ff av : Int32) (fo : Nat → Int32) (s : Nat) (x : Int32) : Prop :=
  ∀ p k, p < 4 → k < 6 → (bt x (6 * p + k) = true ↔ k < Z p ∧ bt (st (6 * p + k)) s = true ∧ (bt ff (6 * p + k) = true ∨ ∃ i, i < 24 ∧ bt av i = true ∧ bt (fo i) (6 * p + k) = true))
theorem xw_on7 {post : Int32 → Prop} {Z : Nat → Nat} {s : Nat} (hok : dw_ok Z sz ct) (hs : s < 32) (hpost : ∀ x, xs_on Z st ff av fo s x → post x) :
    ∀ (n i : Nat) (x : Int32), 24 < n + i → i ≤ 24 → (∀ b, b < 24 → (bt x b = true ↔ bt ff b = true ∨ ∃ i', i' < i ∧ bt av i' = true ∧ bt (fo i') b = true)) →
    wX_onward_7 post (nI s) ln lk ff fz dn av sz st ct sm fo ea la ne nl eA lA n x (nI i) := by
  intro n
  induction n with
  | zero => intro i x h1 h2; omega
  | succ n ih =>
    intro i x h1 h2 hx
    rw [wX_onward_7]
    by_cases e : i = 24
    · subst e
      refine br_t (nI_le (a := 24) (Nat.le_refl _) (by omega)) (xw_pf hok hs (fun r hr => hpost _ ?_))
      intro p k a b
      rw [bw_and, hx (6 * p + k) (by omega), hr p k a b]
      exact ⟨fun g => ⟨g.2.2.1, g.2.2.2, g.1⟩, fun g => ⟨g.2.2, by omega, g.1, g.2.1⟩⟩
    · have c : (nI i).toNatClampNeg = i := nI_clamp (by omega)
      refine br_f (nI_ge (b := 24) (by omega) (by omega)) ?_
      by_cases h : bt av i = true
      · rw [c]
        refine br_f (fun z => (bw_t0 (by omega)).mp z h) ⟨vp_in_nI (by omega) (by omega), nm_e (nm_r (nI_1 i) (ih (i + 1) _ (by omega) (by omega) ?_))⟩
        intro b hb
        rw [bw_or, hx b hb]
        constructor
        · intro g
          rcases g with (g | ⟨i', g1, g2⟩) | g
          · exact Or.inl g
          · exact Or.inr ⟨i', by omega, g2⟩
          · exact Or.inr ⟨i, by omega, h, g⟩
        · intro g
          rcases g with g | ⟨i', g1, g2, g3⟩
          · exact Or.inl (Or.inl g)
          · by_cases q : i' = i
            · subst q; exact Or.inr g3
            · exact Or.inl (Or.inr ⟨i', by omega, g2, g3⟩)
      · refine br_t ((bw_t0 (by omega)).mpr h) (nm_r (nI_1 i) (ih (i + 1) x (by omega) (by omega) ?_))
        intro b hb
        rw [hx b hb]
        constructor
        · intro g
          rcases g with g | ⟨i', g1, g2⟩
          · exact Or.inl g
          · exact Or.inr ⟨i', by omega, g2⟩
        · intro g
          rcases g with g | ⟨i', g1, g2, g3⟩
          · exact Or.inl g
          · by_cases q : i' = i
            · subst q; exact absurd g2 h
            · exact Or.inr ⟨i', by omega, g2, g3⟩
theorem xw_on {post : Int32 → Prop} {Z : Nat → Nat} {s : Nat} (hok : dw_ok Z sz ct) (hs : s < 32) (hpost : ∀ x, xs_on Z st ff av fo s x → post x) :
    wpX_onward post (ln, lk, ff, fz, dn, av, sz, st, ct, sm, fo, ea, la, ne, nl, eA, lA) (nI s) := by
  unfold wpX_onward
  dsimp only
  refine ⟨25, xw_on7 hok hs hpost 25 0 ff (by omega) (by omega) ?_⟩
  intro b _
  exact ⟨fun h => Or.inl h, fun h => h.elim id (fun ⟨i, hi, _⟩ => absurd hi (by omega))⟩
end XO
end
section
/-! X: one symbol on -/
section XV
variable {ln lk ff fz dn av : Int32} {sz st ct sm fo ea la ne nl eA lA : Nat → Int32}
theorem pw_run_cg {P Q : Nat → Prop} {x y : Int32} (h : ∀ f, P f ↔ Q f) (g : pw_run P x y) : pw_run Q x y := (pw_cg h) ▸ g
theorem pw_mm_cg {P Q : Nat → Prop} {x y : Int32} (h : ∀ f, P f ↔ Q f) (g : pw_mm P x y) : pw_mm Q x y := (pw_cg h) ▸ g
theorem pw_ans_cg {P Q : Nat → Prop} {x y : Int32} (h : ∀ f, P f ↔ Q f) (g : pw_ans P x y) : pw_ans Q x y := (pw_cg h) ▸ g
def xs_rn (P : Nat → Nat → Prop) (Q : Nat → Prop) (to : Int32) (b : Nat) (ne nl : Nat → Int32) : Prop :=
  ∀ c, c < 24 → pw_run (fun f => P c f ∨ (c < b ∧ bt to c = true ∧ Q f)) (ne c) (nl c)
theorem xw_rn1 {P : Nat → Nat → Prop} {Q : Nat → Prop} {to x y : Int32} {b : Nat} {ne nl ne' nl' : Nat → Int32} (ht : bt to b = true) (hq : pw_mm Q x y) (h : xs_rn P Q to b ne nl)
    (hne : (ne b ≤ x ∧ ne' = ne) ∨ (¬ ne b ≤ x ∧ ne' = upd ne b x)) (hnl : (y ≤ nl b ∧ nl' = nl) ∨ (¬ y ≤ nl b ∧ nl' = upd nl b y)) : xs_rn P Q to (b + 1) ne' nl' := by
  intro c hc
  by_cases e : c = b
  · subst e
    refine pw_run_cg (fun f => ?_) (pw_run_or (x' := ne' c) (y' := nl' c) (h c hc) hq ?_ ?_)
    · constructor
      · intro g
        rcases g with (g | g) | g
        · exact Or.inl g
        · exact absurd g.1 (by omega)
        · exact Or.inr ⟨by omega, ht, g⟩
      · intro g
        rcases g with g | g
        · exact Or.inl (Or.inl g)
        · exact Or.inr g.2.2
    · rcases hne with ⟨u, rfl⟩ | ⟨u, rfl⟩
      · exact Or.inl ⟨u, rfl⟩
      · exact Or.inr ⟨u, pk_us⟩
    · rcases hnl with ⟨u, rfl⟩ | ⟨u, rfl⟩
      · exact Or.inl ⟨u, rfl⟩
      · exact Or.inr ⟨u, pk_us⟩
  · have e1 : ne' c = ne c := by
      rcases hne with ⟨u, rfl⟩ | ⟨u, rfl⟩
      · rfl
      · exact pk_un e
    have e2 : nl' c = nl c := by
      rcases hnl with ⟨u, rfl⟩ | ⟨u, rfl⟩
      · rfl
      · exact pk_un e
    rw [e1, e2]
    refine pw_run_cg (fun f => ?_) (h c hc)
    constructor
    · intro g
      rcases g with g | g
      · exact Or.inl g
      · exact Or.inr ⟨by omega, g.2⟩
    · intro g
      rcases g with g | g
      · exact Or.inl g
      · exact Or.inr ⟨by omega, g.2⟩
theorem xw_rn0 {P : Nat → Nat → Prop} {Q : Nat → Prop} {to : Int32} {b : Nat} {ne nl : Nat → Int32} (ht : ¬ bt to b = true) (h : xs_rn P Q to b ne nl) : xs_rn P Q to (b + 1) ne nl := by
  intro c hc
  refine pw_run_cg (fun f => ?_) (h c hc)
  constructor
  · intro g
    rcases g with g | g
    · exact Or.inl g
    · exact Or.inr ⟨by omega, g.2⟩
  · intro g
    rcases g with g | g
    · exact Or.inl g
    · by_cases e : c = b
      · subst e; exact absurd g.2.1 ht
      · exact Or.inr ⟨by omega, g.2⟩
theorem xw_p43 {post : SX → Prop} {J2 : Int32 → (Nat → Int32) → (Nat → Int32) → (Nat → Int32) → (Nat → Int32) → (Nat → Int32) → (Nat → Int32) → (Nat → Int32) → (Nat → Int32) → (Nat → Int32) → (Nat → Int32) → (Nat → Int32) → Prop} {x2 : Int32} {i b : Nat} (hi : i < 24) (hb : b < 24) (hn : vp_nar .byte (la i) = la i)
    (hJ : ∀ nl', ((la i ≤ nl b ∧ nl' = nl) ∨ (¬ la i ≤ nl b ∧ nl' = upd nl b (la i))) → J2 (nI (b + 1)) sz st ct sm fo ea la ne nl' eA lA) :
    wX_pass_43 post J2 (nI i) x2 (nI b) ln lk ff fz dn av sz st ct sm fo ea la ne nl eA lA := by
  have c1 : (nI i).toNatClampNeg = i := nI_clamp (by omega)
  have c2 : (nI b).toNatClampNeg = b := nI_clamp (by omega)
  have v1 : vp_in (nI i) 24 := vp_in_nI hi (by omega)
  have v2 : vp_in (nI b) 24 := vp_in_nI hb (by omega)
  unfold wX_pass_43
  rw [c1, c2, hn]
  exact ⟨v1, v2, br_c (fun z => nm_r (nI_1 b) (hJ nl (Or.inl ⟨z, rfl⟩))) (fun z => ⟨v1, v2, nm_e (nm_r (nI_1 b) (hJ _ (Or.inr ⟨z, rfl⟩)))⟩)⟩
theorem xw_p2 {post : SX → Prop} {to : Int32} {i : Nat} {P : Nat → Nat → Prop} {Q : Nat → Prop} (hi : i < 24) (hq : pw_mm Q (ea i) (la i))
    (hpost : ∀ ne nl, xs_rn P Q to 24 ne nl → post (ln, lk, ff, fz, dn, av, sz, st, ct, sm, fo, ea, la, ne, nl, eA, lA)) :
    ∀ (n b : Nat) (ne nl : Nat → Int32), 24 < n + b → b ≤ 24 → xs_rn P Q to b ne nl → wX_pass_2 post (nI i) to ln lk ff fz dn av n (nI b) sz st ct sm fo ea la ne nl eA lA := by
  have c1 : (nI i).toNatClampNeg = i := nI_clamp (by omega)
  have v1 : vp_in (nI i) 24 := vp_in_nI hi (by omega)
  obtain ⟨n1, n2⟩ := bw_mm hq
  intro n
  induction n with
  | zero => intro b ne nl h1 h2; omega
  | succ n ih =>
    intro b ne nl h1 h2 hr
    rw [wX_pass_2]
    by_cases e : b = 24
    · subst e
      exact br_t (nI_le (a := 24) (Nat.le_refl _) (by omega)) (hpost ne nl hr)
    · have c2 : (nI b).toNatClampNeg = b := nI_clamp (by omega)
      have v2 : vp_in (nI b) 24 := vp_in_nI (by omega) (by omega)
      refine br_f (nI_ge (b := 24) (by omega) (by omega)) ?_
      by_cases h : bt to b = true
      · refine br_f (fun z => (bw_t0 (by omega)).mp z h) ⟨v1, v2, ?_⟩
        rw [c1, c2, n1]
        refine br_c (fun z => ?_) (fun z => ⟨v1, v2, nm_e ?_⟩)
        · exact xw_p43 hi (by omega) n2 (fun nl' hl => ih (b + 1) ne nl' (by omega) (by omega) (xw_rn1 h hq hr (Or.inl ⟨z, rfl⟩) hl))
        · exact xw_p43 hi (by omega) n2 (fun nl' hl => ih (b + 1) _ nl' (by omega) (by omega) (xw_rn1 h hq hr (Or.inr ⟨z, rfl⟩) hl))
      · exact br_t ((bw_t0 (by omega)).mpr h) (nm_r (nI_1 b) (ih (b + 1) ne nl (by omega) (by omega) (xw_rn0 h hr)))
theorem xw_pass {post : SX → Prop} {to : Int32} {i : Nat} {P : Nat → Nat → Prop} {Q : Nat → Prop} (hi : i < 24) (hq : pw_mm Q (ea i) (la i))
    (hr : ∀ c, c < 24 → pw_run (P c) (ne c) (nl c))
    (hpost : ∀ ne nl, (∀ c, c < 24 → pw_run (fun f => P c f ∨ (bt to c = true ∧ Q f)) (ne c) (nl c)) → post (ln, lk, ff, fz, dn, av, sz, st, ct, sm, fo, ea, la, ne, nl, eA, lA)) : wpX_pass post (ln, lk, ff, fz, dn, av, sz, st, ct, sm, fo, ea, la, ne, nl, eA, lA) (nI i) to := by
  unfold wpX_pass
  dsimp only
  refine ⟨25, xw_p2 (P := P) hi hq (fun ne nl h => hpost ne nl (fun c hc => pw_run_cg (fun f => ?_) (h c hc))) 25 0 ne nl (by omega) (by omega) (fun c hc => pw_run_cg (fun f => ?_) (hr c hc))⟩
  · exact ⟨fun g => g.elim Or.inl (fun g => Or.inr g.2), fun g => g.elim Or.inl (fun g => Or.inr ⟨hc, g⟩)⟩
  · exact ⟨fun g => Or.inl g, fun g => g.elim id (fun g => absurd g.1 (Nat.not_lt_zero c))⟩
theorem xw_a122 {post : SX → Prop} {S : Nat → Nat → Prop} (hr : ∀ c, c < 24 → pw_run (S c) (ne c) (nl c))
    (hpost : ∀ ea la, (∀ c, c < 24 → pw_run (S c) (ea c) (la c)) → post (ln, lk, ff, fz, dn, av, sz, st, ct, sm, fo, ea, la, ne, nl, eA, lA)) :
    ∀ (n i : Nat) (ea la : Nat → Int32), 24 < n + i → i ≤ 24 → (∀ c, c < i → pw_run (S c) (ea c) (la c)) → wX_advance_122 post ln lk ff fz dn av n (nI i) sz st ct sm fo ea la ne nl eA lA := by
  intro n
  induction n with
  | zero => intro i ea la h1 h2; omega
  | succ n ih =>
    intro i ea la h1 h2 h
    rw [wX_advance_122]
    by_cases e : i = 24
    · subst e
      exact br_t (nI_le (a := 24) (Nat.le_refl _) (by omega)) (hpost ea la h)
    · have c : (nI i).toNatClampNeg = i := nI_clamp (by omega)
      have v : vp_in (nI i) 24 := vp_in_nI (by omega) (by omega)
      obtain ⟨n1, n2⟩ := bw_run (hr i (by omega))
      refine br_f (nI_ge (b := 24) (by omega) (by omega)) ?_
      rw [c, n1, n2]
      refine ⟨v, v, nm_e ⟨v, v, nm_e (nm_r (nI_1 i) (ih (i + 1) _ _ (by omega) (by omega) ?_))⟩⟩
      intro d hd
      by_cases q : d = i
      · subst q
        rw [pk_us, pk_us]
        exact hr d (by omega)
      · rw [pk_un q, pk_un q]
        exact h d (by omega)
theorem xw_a74 {post : SX → Prop} {nx : Int32} {P Q : Nat → Nat → Prop} (hq : ∀ i, i < 24 → bt av i = true → pw_mm (Q i) (ea i) (la i))
    (hpost : ∀ ea la ne nl, (∀ c, c < 24 → pw_run (fun f => P c f ∨ ∃ i, i < 24 ∧ bt av i = true ∧ bt (nx &&& fo i) c = true ∧ Q i f) (ea c) (la c)) → post (ln, lk, ff, fz, dn, nx, sz, st, ct, sm, fo, ea, la, ne, nl, eA, lA)) :
    ∀ (n i : Nat) (ne nl : Nat → Int32), 24 < n + i → i ≤ 24 → (∀ c, c < 24 → pw_run (fun f => P c f ∨ ∃ j, j < i ∧ bt av j = true ∧ bt (nx &&& fo j) c = true ∧ Q j f) (ne c) (nl c)) →
    wX_advance_74 post nx n (nI i) ln lk ff fz dn av sz st ct sm fo ea la ne nl eA lA := by
  intro n
  induction n with
  | zero => intro i ne nl h1 h2; omega
  | succ n ih =>
    intro i ne nl h1 h2 h
    rw [wX_advance_74]
    by_cases e : i = 24
    · subst e
      exact br_t (nI_le (a := 24) (Nat.le_refl _) (by omega)) ⟨25, xw_a122 h (fun ea la g => hpost ea la ne nl g) 25 0 ea la (by omega) (by omega) (fun c hc => absurd hc (Nat.not_lt_zero c))⟩
    · have c : (nI i).toNatClampNeg = i := nI_clamp (by omega)
      have v : vp_in (nI i) 24 := vp_in_nI (by omega) (by omega)
      refine br_f (nI_ge (b := 24) (by omega) (by omega)) ?_
      by_cases z : bt av i = true
      · rw [c]
        refine br_f (fun y => (bw_t0 (by omega)).mp y z) ⟨v, xw_pass (by omega) (hq i (by omega) z) h (fun ne nl g => ?_)⟩
        refine nm_r (nI_1 i) (ih (i + 1) ne nl (by omega) (by omega) (fun d hd => pw_run_cg (fun f => ?_) (g d hd)))
        constructor
        · intro k
          rcases k with (k | ⟨j, k1, k2⟩) | ⟨k1, k2⟩
          · exact Or.inl k
          · exact Or.inr ⟨j, by omega, k2⟩
          · exact Or.inr ⟨i, by omega, z, k1, k2⟩
        · intro k
          rcases k with k | ⟨j, k1, k2, k3, k4⟩
          · exact Or.inl (Or.inl k)
          · by_cases q : j = i
            · subst q; exact Or.inr ⟨k3, k4⟩
            · exact Or.inl (Or.inr ⟨j, by omega, k2, k3, k4⟩)
      · refine br_t ((bw_t0 (by omega)).mpr z) (nm_r (nI_1 i) (ih (i + 1) ne nl (by omega) (by omega) (fun d hd => pw_run_cg (fun f => ?_) (h d hd))))
        constructor
        · intro k
          rcases k with k | ⟨j, k1, k2⟩
          · exact Or.inl k
          · exact Or.inr ⟨j, by omega, k2⟩
        · intro k
          rcases k with k | ⟨j, k1, k2, k3⟩
          · exact Or.inl k
          · by_cases q : j = i
            · subst q; exact absurd k2 z
            · exact Or.inr ⟨j, by omega, k2, k3⟩
theorem xw_a9 {post : SX → Prop} {nx : Int32} {t : Nat} {Q : Nat → Nat → Prop} (ht : t < 60) (hq : ∀ i, i < 24 → bt av i = true → pw_mm (Q i) (ea i) (la i))
    (hpost : ∀ ea la ne nl, (∀ c, c < 24 → pw_run (fun f => (f = t ∧ bt (nx &&& ff) c = true) ∨ ∃ i, i < 24 ∧ bt av i = true ∧ bt (nx &&& fo i) c = true ∧ Q i f) (ea c) (la c)) → post (ln, lk, ff, fz, dn, nx, sz, st, ct, sm, fo, ea, la, ne, nl, eA, lA)) :
    ∀ (n i : Nat) (ne nl : Nat → Int32), 24 < n + i → i ≤ 24 → (∀ c, c < i → pw_run (fun f => f = t ∧ bt (nx &&& ff) c = true) (ne c) (nl c)) →
    wX_advance_9 post (nI t) nx ln lk ff fz dn av n (nI i) sz st ct sm fo ea la ne nl eA lA := by
  intro n
  induction n with
  | zero => intro i ne nl h1 h2; omega
  | succ n ih =>
    intro i ne nl h1 h2 h
    rw [wX_advance_9]
    by_cases e : i = 24
    · subst e
      refine br_t (nI_le (a := 24) (Nat.le_refl _) (by omega)) ⟨25, xw_a74 (P := fun c f => f = t ∧ bt (nx &&& ff) c = true) hq hpost 25 0 ne nl (by omega) (by omega) (fun c hc => pw_run_cg (fun f => ?_) (h c hc))⟩
      exact ⟨fun g => Or.inl g, fun g => g.elim id (fun ⟨j, hj, _⟩ => absurd hj (Nat.not_lt_zero j))⟩
    · have c : (nI i).toNatClampNeg = i := nI_clamp (by omega)
      have v : vp_in (nI i) 24 := vp_in_nI (by omega) (by omega)
      refine br_f (nI_ge (b := 24) (by omega) (by omega)) ?_
      rw [c, bw_n60, bw_nm1, bw_nbb (by omega : t < 128)]
      refine ⟨v, nm_e ⟨v, nm_e ?_⟩⟩
      by_cases z : bt (nx &&& ff) i = true
      · refine br_f (fun y => (bw_t0 (by omega)).mp y z) ⟨v, nm_e ⟨v, nm_e (nm_r (nI_1 i) (ih (i + 1) _ _ (by omega) (by omega) ?_))⟩⟩
        intro d hd
        by_cases q : d = i
        · subst q
          rw [pk_us, pk_us]
          exact Or.inr ⟨t, t, ht, ht, rfl, rfl, ⟨rfl, z⟩, ⟨rfl, z⟩, fun f hf => ⟨by omega, by omega⟩⟩
        · rw [pk_un q, pk_un q, pk_un q, pk_un q]
          exact h d (by omega)
      · refine br_t ((bw_t0 (by omega)).mpr z) (nm_r (nI_1 i) (ih (i + 1) _ _ (by omega) (by omega) ?_))
        intro d hd
        by_cases q : d = i
        · subst q
          rw [pk_us, pk_us]
          exact Or.inl ⟨rfl, rfl, fun f hf => z hf.2⟩
        · rw [pk_un q, pk_un q]
          exact h d (by omega)
theorem xw_adv {post : SX → Prop} {Z : Nat → Nat} {s t : Nat} {Q : Nat → Nat → Prop} (hok : dw_ok Z sz ct) (hs : s < 32) (ht : t < 60)
    (hq : ∀ i, i < 24 → bt av i = true → pw_mm (Q i) (ea i) (la i))
    (hpost : ∀ nx ea la ne nl, xs_on Z st ff av fo s nx → (∀ c, c < 24 → pw_run (fun f => (f = t ∧ bt (nx &&& ff) c = true) ∨ ∃ i, i < 24 ∧ bt av i = true ∧ bt (nx &&& fo i) c = true ∧ Q i f) (ea c) (la c)) → post (ln, lk, ff, fz, dn, nx, sz, st, ct, sm, fo, ea, la, ne, nl, eA, lA)) :
    wpX_advance post (ln, lk, ff, fz, dn, av, sz, st, ct, sm, fo, ea, la, ne, nl, eA, lA) (nI s) (nI t) := by
  unfold wpX_advance
  dsimp only
  exact xw_on hok hs (fun nx hn => ⟨25, xw_a9 ht hq (fun ea la ne nl g => hpost nx ea la ne nl hn g) 25 0 ne nl (by omega) (by omega) (fun c hc => absurd hc (Nat.not_lt_zero c))⟩)
end XV
end
section
/-! X: the matches that end at a place -/
section XN
variable {ln lk ff fz dn av : Int32} {sz st ct sm fo ea la ne nl eA lA : Nat → Int32}
theorem xw_n127 {post : SX → Prop} {J2 : Int32 → (Nat → Int32) → (Nat → Int32) → (Nat → Int32) → (Nat → Int32) → (Nat → Int32) → (Nat → Int32) → (Nat → Int32) → (Nat → Int32) → (Nat → Int32) → (Nat → Int32) → (Nat → Int32) → Prop} {x y x' y' : Int32} {t p : Nat} (ht : t < 60) (hp : p < 4)
    (ex : vp_nar .byte x.toInt8.toInt32 = x') (ey : vp_nar .byte y.toInt8.toInt32 = y')
    (hJ : J2 (nI (p + 1)) sz st ct sm fo ea la ne nl (upd eA (4 * t + p) x') (upd lA (4 * t + p) y')) :
    wX_note_127 post J2 (nI t) (nI p) y x (nI t * 4 + nI p) ln lk ff fz dn av sz st ct sm fo ea la ne nl eA lA := by
  have c : (nI (4 * t + p)).toNatClampNeg = 4 * t + p := nI_clamp (by omega)
  have v : vp_in (nI (4 * t + p)) 240 := vp_in_nI (by omega) (by omega)
  unfold wX_note_127
  rw [bw_c4, c, ex, ey]
  exact ⟨v, nm_e ⟨v, nm_e (nm_r (nI_1 p) hJ)⟩⟩
theorem xw_n75 {post : SX → Prop} {J2 : Int32 → (Nat → Int32) → (Nat → Int32) → (Nat → Int32) → (Nat → Int32) → (Nat → Int32) → (Nat → Int32) → (Nat → Int32) → (Nat → Int32) → (Nat → Int32) → (Nat → Int32) → (Nat → Int32) → Prop} {J16 : Int32 → Int32 → Int32 → Prop} {x1 x2 y z0 : Int32} {i k : Nat} (hi : i < 24)
    (hJ : ∀ y', ((la i ≤ y ∧ y' = y) ∨ (¬ la i ≤ y ∧ y' = la i)) → J16 z0 y' (nI (k + 1))) :
    wX_note_75 post J2 J16 x1 x2 y (nI k) (nI i) z0 ln lk ff fz dn av sz st ct sm fo ea la ne nl eA lA := by
  have c : (nI i).toNatClampNeg = i := nI_clamp (by omega)
  have v : vp_in (nI i) 24 := vp_in_nI hi (by omega)
  unfold wX_note_75
  rw [c]
  exact ⟨v, br_c (fun z => nm_r (nI_1 k) (hJ y (Or.inl ⟨z, rfl⟩))) (fun z => ⟨v, nm_e (nm_r (nI_1 k) (hJ _ (Or.inr ⟨z, rfl⟩)))⟩)⟩
theorem xw_n16 {post : SX → Prop} {J2 : Int32 → (Nat → Int32) → (Nat → Int32) → (Nat → Int32) → (Nat → Int32) → (Nat → Int32) → (Nat → Int32) → (Nat → Int32) → (Nat → Int32) → (Nat → Int32) → (Nat → Int32) → (Nat → Int32) → Prop} {t p : Nat} {Z : Nat → Nat} {B : Nat → Nat → Prop} (hok : dw_ok Z sz ct) (ht : t < 60) (hp : p < 4)
    (hq : ∀ i, i < 24 → bt av i = true → pw_mm (B i) (ea i) (la i))
    (hJ : ∀ x y, pw_ans (fun f => ∃ k, k < Z p ∧ bt (av &&& fz) (6 * p + k) = true ∧ B (6 * p + k) f) x y → J2 (nI (p + 1)) sz st ct sm fo ea la ne nl (upd eA (4 * t + p) x) (upd lA (4 * t + p) y)) :
    ∀ (n k : Nat) (x y : Int32), Z p < n + k → k ≤ Z p → pw_run (fun f => ∃ k', k' < k ∧ bt (av &&& fz) (6 * p + k') = true ∧ B (6 * p + k') f) x y →
    wX_note_16 post J2 (nI t) (nI p) ln lk ff fz dn av sz st ct sm fo ea la ne nl eA lA n x y (nI k) := by
  obtain ⟨hz, hz6⟩ := hok.1 p hp
  intro n
  induction n with
  | zero => intro k x y h1 h2; omega
  | succ n ih =>
    intro k x y h1 h2 h
    have c : (nI p).toNatClampNeg = p := nI_clamp (by omega)
    rw [wX_note_16]
    dsimp only
    rw [c, hz]
    refine ⟨vp_in_nI hp (by omega), ?_⟩
    by_cases e : k = Z p
    · refine br_t (by rw [e]; exact nI_le (Nat.le_refl _) (by omega)) ?_
      rw [e] at h
      rcases h with ⟨rfl, rfl, hn⟩ | h
      · exact br_f (by decide) (xw_n127 ht hp bw_nm1b bw_nm1b (hJ _ _ (Or.inl ⟨rfl, rfl, hn⟩)))
      · obtain ⟨a, b, ha, hb, rfl, rfl, _⟩ := id h
        exact br_t (nI_pos' (by omega)) (xw_n127 ht hp (bw_nbb (by omega)) (bw_nbb (by omega)) (hJ _ _ (Or.inr h)))
    · have c2 : (nI (6 * p + k)).toNatClampNeg = 6 * p + k := nI_clamp (by omega)
      have v : vp_in (nI (6 * p + k)) 24 := vp_in_nI (by omega) (by omega)
      refine br_f (nI_ge (by omega) (by omega)) (nm_r (bw_c6 p k) ?_)
      by_cases z : bt (av &&& fz) (6 * p + k) = true
      · have hm := hq (6 * p + k) (by omega) (bw_and.mp z).1
        have hs : ∀ x' y', ((x ≤ ea (6 * p + k) ∧ x' = x) ∨ (¬ x ≤ ea (6 * p + k) ∧ x' = ea (6 * p + k))) → ((la (6 * p + k) ≤ y ∧ y' = y) ∨ (¬ la (6 * p + k) ≤ y ∧ y' = la (6 * p + k))) →
            wX_note_16 post J2 (nI t) (nI p) ln lk ff fz dn av sz st ct sm fo ea la ne nl eA lA n x' y' (nI (k + 1)) := by
          intro x' y' gx gy
          refine ih (k + 1) x' y' (by omega) (by omega) (pw_run_cg (fun f => ?_) (pw_run_or h hm gx gy))
          constructor
          · intro g
            rcases g with ⟨k', g1, g2⟩ | g
            · exact ⟨k', by omega, g2⟩
            · exact ⟨k, by omega, z, g⟩
          · intro g
            obtain ⟨k', g1, g2, g3⟩ := g
            by_cases q : k' = k
            · subst q; exact Or.inr g3
            · exact Or.inl ⟨k', by omega, g2, g3⟩
        refine br_f (fun y => (bw_t0 (by omega)).mp y z) ⟨v, ?_⟩
        rw [c2]
        exact br_c (fun w => xw_n75 (by omega) (fun y' gy => hs x y' (Or.inl ⟨w, rfl⟩) gy)) (fun w => ⟨v, xw_n75 (by omega) (fun y' gy => hs _ y' (Or.inr ⟨w, rfl⟩) gy)⟩)
      · refine br_t ((bw_t0 (by omega)).mpr z) (nm_r (nI_1 k) (ih (k + 1) x y (by omega) (by omega) (pw_run_cg (fun f => ?_) h)))
        constructor
        · intro g
          obtain ⟨k', g1, g2⟩ := g
          exact ⟨k', by omega, g2⟩
        · intro g
          obtain ⟨k', g1, g2, g3⟩ := g
          by_cases q : k' = k
          · subst q; exact absurd g2 z
          · exact ⟨k', by omega, g2, g3⟩
theorem xw_n2 {post : SX → Prop} {t : Nat} {Z : Nat → Nat} {B : Nat → Nat → Prop} {e0 l0 : Nat → Int32} (hok : dw_ok Z sz ct) (ht : t < 60)
    (hq : ∀ i, i < 24 → bt av i = true → pw_mm (B i) (ea i) (la i))
    (hpost : ∀ eA lA, (∀ c, c < 4 * t → eA c = e0 c ∧ lA c = l0 c) → (∀ p, p < 4 → pw_ans (fun f => ∃ k, k < Z p ∧ bt (av &&& fz) (6 * p + k) = true ∧ B (6 * p + k) f) (eA (4 * t + p)) (lA (4 * t + p))) → post (ln, lk, ff, fz, dn, av, sz, st, ct, sm, fo, ea, la, ne, nl, eA, lA)) :
    ∀ (n p : Nat) (eA lA : Nat → Int32), 4 < n + p → p ≤ 4 → (∀ c, c < 4 * t → eA c = e0 c ∧ lA c = l0 c) →
    (∀ p', p' < p → pw_ans (fun f => ∃ k, k < Z p' ∧ bt (av &&& fz) (6 * p' + k) = true ∧ B (6 * p' + k) f) (eA (4 * t + p')) (lA (4 * t + p'))) →
    wX_note_2 post (nI t) ln lk ff fz dn av n (nI p) sz st ct sm fo ea la ne nl eA lA := by
  intro n
  induction n with
  | zero => intro p eA lA h1 h2; omega
  | succ n ih =>
    intro p eA lA h1 h2 h3 h4
    rw [wX_note_2]
    by_cases e : p = 4
    · subst e
      exact br_t (nI_le (a := 4) (Nat.le_refl _) (by omega)) (hpost eA lA h3 h4)
    · refine br_f (nI_ge (b := 4) (by omega) (by omega)) ⟨Z p + 1, xw_n16 hok ht (by omega) hq (fun x y hxy => ?_) (Z p + 1) 0 60 (-1) (by omega) (by omega) (Or.inl ⟨rfl, rfl, fun f ⟨k, hk, _⟩ => absurd hk (Nat.not_lt_zero k)⟩)⟩
      refine ih (p + 1) _ _ (by omega) (by omega) (fun c hc => ?_) (fun p' hp' => ?_)
      · rw [pk_un (by omega), pk_un (by omega)]
        exact h3 c hc
      · by_cases q : p' = p
        · subst q
          rw [pk_us, pk_us]
          exact hxy
        · rw [pk_un (by omega), pk_un (by omega)]
          exact h4 p' (by omega)
theorem xw_note {post : SX → Prop} {t : Nat} {Z : Nat → Nat} {B : Nat → Nat → Prop} (hok : dw_ok Z sz ct) (ht : t < 60)
    (hq : ∀ i, i < 24 → bt av i = true → pw_mm (B i) (ea i) (la i))
    (hpost : ∀ eA' lA', (∀ c, c < 4 * t → eA' c = eA c ∧ lA' c = lA c) → (∀ p, p < 4 → pw_ans (fun f => ∃ k, k < Z p ∧ bt (av &&& fz) (6 * p + k) = true ∧ B (6 * p + k) f) (eA' (4 * t + p)) (lA' (4 * t + p))) → post (ln, lk, ff, fz, dn, av, sz, st, ct, sm, fo, ea, la, ne, nl, eA', lA')) :
    wpX_note post (ln, lk, ff, fz, dn, av, sz, st, ct, sm, fo, ea, la, ne, nl, eA, lA) (nI t) := by
  unfold wpX_note
  dsimp only
  exact ⟨5, xw_n2 hok ht hq hpost 5 0 eA lA (by omega) (by omega) (fun c _ => ⟨rfl, rfl⟩) (fun p hp => absurd hp (Nat.not_lt_zero p))⟩
end XN
end
section
/-! X: all symbols of the stream gone through -/
section XG
variable {ln lk ff fz dn av : Int32} {sz st ct sm fo ea la ne nl eA lA : Nat → Int32} {Z T T' : Nat → Nat} {d : Nat}
def xs_A (ct st : Nat → Int32) (T Z : Nat → Nat) (d : Nat) (av : Int32) (ea la : Nat → Int32) : Prop :=
  ∀ p k, p < 4 → k < 6 → (bt av (6 * p + k) = true ↔ k < Z p ∧ ∃ f, dw_act ct st T p f k d) ∧
    (bt av (6 * p + k) = true → pw_mm (fun f => dw_act ct st T p f k d) (ea (6 * p + k)) (la (6 * p + k)))
def xs_N (ct st : Nat → Int32) (T Z : Nat → Nat) (d : Nat) (eA lA : Nat → Int32) : Prop :=
  ∀ t p, t < d → p < 4 → pw_ans (fun f => dw_mt ct st T Z p f t) (eA (4 * t + p)) (lA (4 * t + p))
theorem dw_step {p f k n : Nat} : dw_act ct st T p f k (n + 1) ↔ bt (st (6 * p + k)) (T n) = true ∧ ((f = n ∧ pw_em (dw_E ct p) 0 k) ∨ ∃ j, dw_act ct st T p f j n ∧ pw_fol (dw_E ct p) (dw_R ct p) j k) := pw_step
theorem dw_mt_iff {p f t : Nat} : dw_mt ct st T Z p f t ↔ ∃ k, k < Z p ∧ dw_act ct st T p f k (t + 1) ∧ pw_em (dw_E ct p) (k + 1) (Z p) := pw_mt
theorem bw_d6 {p k : Nat} (h : k < 6) : (6 * p + k) / 6 = p := by omega
theorem bw_m6 {p k : Nat} (h : k < 6) : (6 * p + k) % 6 = k := by omega
theorem xw_onA {s : Nat} {nx : Int32} (hok : dw_ok Z sz ct) (hlk : xs_lk Z ct ff fz fo) (hA : xs_A ct st T Z d av ea la) (hon : xs_on Z st ff av fo s nx) (hT : ∀ j, j < d → T j = T' j) (hs : T' d = s) :
    ∀ p k, p < 4 → k < 6 → (bt nx (6 * p + k) = true ↔ k < Z p ∧ ∃ f, dw_act ct st T' p f k (d + 1)) := by
  intro p k hp hk
  rw [hon p k hp hk]
  constructor
  · intro g
    obtain ⟨h1, h2, g | ⟨i, hi, ha, ho⟩⟩ := g
    · exact ⟨h1, d, dw_step.mpr ⟨by rw [hs]; exact h2, Or.inl ⟨rfl, ((hlk.1 p k hp hk).mp g).2.2⟩⟩⟩
    · obtain ⟨p', j, hp', hj, rfl⟩ := bw_cell hi
      obtain ⟨a1, f, a2⟩ := (hA p' j hp' hj).1.mp ha
      obtain ⟨e, _, fl⟩ := (hlk.2.2 p' j (Or.inl hp') hp' a1 p k hp hk).mp ho
      subst e
      exact ⟨h1, f, dw_step.mpr ⟨by rw [hs]; exact h2, Or.inr ⟨j, (dw_act_cg hT).mp a2, fl⟩⟩⟩
  · intro g
    obtain ⟨h1, f, hf⟩ := g
    obtain ⟨h2, h3⟩ := dw_step.mp hf
    rw [hs] at h2
    refine ⟨h1, h2, ?_⟩
    rcases h3 with ⟨_, em⟩ | ⟨j, ha, fl⟩
    · exact Or.inl ((hlk.1 p k hp hk).mpr ⟨hp, h1, em⟩)
    · have hj : j ≤ k := by
        rcases fl with ⟨g, _⟩ | ⟨g, _⟩ <;> omega
      exact Or.inr ⟨6 * p + j, by omega, (hA p j hp (by omega)).1.mpr ⟨by omega, f, (dw_act_cg hT).mpr ha⟩, (hlk.2.2 p j (Or.inl hp) hp (by omega) p k hp hk).mpr ⟨rfl, h1, fl⟩⟩
theorem xw_A1 {nx : Int32} {ea' la' : Nat → Int32} (hok : dw_ok Z sz ct) (hlk : xs_lk Z ct ff fz fo) (hA : xs_A ct st T Z d av ea la) (hon : xs_on Z st ff av fo (T d) nx)
    (hr : ∀ c, c < 24 → pw_run (fun f => (f = d ∧ bt (nx &&& ff) c = true) ∨ ∃ i, i < 24 ∧ bt av i = true ∧ bt (nx &&& fo i) c = true ∧ dw_act ct st T (i / 6) f (i % 6) d) (ea' c) (la' c)) :
    xs_A ct st T Z (d + 1) nx ea' la' := by
  intro p k hp hk
  have hb := xw_onA hok hlk hA hon (T' := T) (fun _ _ => rfl) rfl p k hp hk
  refine ⟨hb, fun h => ?_⟩
  obtain ⟨h1, hex⟩ := hb.mp h
  have h2 := ((hon p k hp hk).mp h).2.1
  refine pw_run_mm (pw_run_cg (fun f => ?_) (hr (6 * p + k) (by omega))) hex
  rw [dw_step]
  constructor
  · intro g
    refine ⟨h2, ?_⟩
    rcases g with ⟨g1, g2⟩ | ⟨i, hi, ha, ho, hact⟩
    · exact Or.inl ⟨g1, ((hlk.1 p k hp hk).mp (bw_and.mp g2).2).2.2⟩
    · obtain ⟨p', j, hp', hj, rfl⟩ := bw_cell hi
      rw [bw_d6 hj, bw_m6 hj] at hact
      obtain ⟨a1, _⟩ := (hA p' j hp' hj).1.mp ha
      obtain ⟨e, _, fl⟩ := (hlk.2.2 p' j (Or.inl hp') hp' a1 p k hp hk).mp (bw_and.mp ho).2
      subst e
      exact Or.inr ⟨j, hact, fl⟩
  · intro g
    obtain ⟨_, ⟨g1, em⟩ | ⟨j, ha, fl⟩⟩ := g
    · exact Or.inl ⟨g1, bw_and.mpr ⟨h, (hlk.1 p k hp hk).mpr ⟨hp, h1, em⟩⟩⟩
    · have hj : j ≤ k := by
        rcases fl with ⟨g, _⟩ | ⟨g, _⟩ <;> omega
      have hj6 : j < 6 := by omega
      refine Or.inr ⟨6 * p + j, by omega, (hA p j hp hj6).1.mpr ⟨by omega, f, ha⟩, bw_and.mpr ⟨h, (hlk.2.2 p j (Or.inl hp) hp (by omega) p k hp hk).mpr ⟨rfl, h1, fl⟩⟩, ?_⟩
      rw [bw_d6 hj6, bw_m6 hj6]
      exact ha
/-- active places by their cells -/
theorem xw_Aq (hA : xs_A ct st T Z d av ea la) : ∀ i, i < 24 → bt av i = true → pw_mm (fun f => dw_act ct st T (i / 6) f (i % 6) d) (ea i) (la i) := by
  intro i hi h
  obtain ⟨p, k, hp, hk, rfl⟩ := bw_cell hi
  rw [bw_d6 hk, bw_m6 hk]
  exact (hA p k hp hk).2 h
theorem xw_N1 {eA' lA' : Nat → Int32} (hok : dw_ok Z sz ct) (hlk : xs_lk Z ct ff fz fo) (hA : xs_A ct st T Z (d + 1) av ea la) (hN : xs_N ct st T Z d eA lA)
    (h1 : ∀ c, c < 4 * d → eA' c = eA c ∧ lA' c = lA c)
    (h2 : ∀ p, p < 4 → pw_ans (fun f => ∃ k, k < Z p ∧ bt (av &&& fz) (6 * p + k) = true ∧ dw_act ct st T ((6 * p + k) / 6) f ((6 * p + k) % 6) (d + 1)) (eA' (4 * d + p)) (lA' (4 * d + p))) :
    xs_N ct st T Z (d + 1) eA' lA' := by
  intro t p ht hp
  by_cases e : t = d
  · subst e
    refine pw_ans_cg (fun f => ?_) (h2 p hp)
    have hz6 := (hok.1 p hp).2
    rw [dw_mt_iff]
    constructor
    · intro g
      obtain ⟨k, hk, hb, ha⟩ := g
      have hk6 : k < 6 := by omega
      rw [bw_d6 hk6, bw_m6 hk6] at ha
      exact ⟨k, hk, ha, ((hlk.2.1 p k hp hk6).mp (bw_and.mp hb).2).2.2⟩
    · intro g
      obtain ⟨k, hk, ha, em⟩ := g
      have hk6 : k < 6 := by omega
      refine ⟨k, hk, bw_and.mpr ⟨(hA p k hp hk6).1.mpr ⟨hk, f, ha⟩, (hlk.2.1 p k hp hk6).mpr ⟨Or.inl hp, hk, em⟩⟩, ?_⟩
      rw [bw_d6 hk6, bw_m6 hk6]
      exact ha
  · obtain ⟨e1, e2⟩ := h1 (4 * t + p) (by omega)
    rw [e1, e2]
    exact hN t p (by omega) hp
theorem xw_go4 {post : SX → Prop} {L : Nat} (hok : dw_ok Z sz ct) (hL : L ≤ 60) (hsm : ∀ j, j < L → sm j = nI (T j) ∧ T j < 4) (hlk : xs_lk Z ct ff fz fo)
    (hpost : ∀ av ea la ne nl eA lA, xs_A ct st T Z L av ea la → xs_N ct st T Z L eA lA → post (nI L, lk, ff, fz, nI L, av, sz, st, ct, sm, fo, ea, la, ne, nl, eA, lA)) :
    ∀ (n d : Nat) (av : Int32) (ea la ne nl eA lA : Nat → Int32), L < n + d → d ≤ L → xs_A ct st T Z d av ea la → xs_N ct st T Z d eA lA →
    wX_goThrough_4 post n (nI L) lk ff fz (nI d) av sz st ct sm fo ea la ne nl eA lA := by
  intro n
  induction n with
  | zero => intro d av ea la ne nl eA lA h1 h2; omega
  | succ n ih =>
    intro d av ea la ne nl eA lA h1 h2 hA hN
    rw [wX_goThrough_4]
    by_cases e : d = L
    · subst e
      exact br_t (nI_le (Nat.le_refl _) (by omega)) (hpost av ea la ne nl eA lA hA hN)
    · have c : (nI d).toNatClampNeg = d := nI_clamp (by omega)
      obtain ⟨s1, s2⟩ := hsm d (by omega)
      refine br_f (nI_ge (by omega) (by omega)) ⟨vp_in_nI (by omega) (by omega), nm_r (e' := nI (T d)) (by rw [c, s1]) ?_⟩
      refine xw_adv hok (by omega) (by omega) (xw_Aq hA) (fun nx ea' la' ne' nl' g1 g2 => ?_)
      have hA' := xw_A1 hok hlk hA g1 g2
      refine xw_note hok (by omega) (xw_Aq hA') (fun eA' lA' g3 g4 => ?_)
      exact nm_r (nI_1 d) (ih (d + 1) nx ea' la' ne' nl' eA' lA' (by omega) (by omega) hA' (xw_N1 hok hlk hA' hN g3 g4))
theorem xw_go {post : SX → Prop} {L D : Nat} (hok : dw_ok Z sz ct) (hL : L ≤ 60) (hD : D ≤ L) (hsm : ∀ j, j < L → sm j = nI (T j) ∧ T j < 4) (hlk : lk = 0 ∨ xs_lk Z ct ff fz fo)
    (hA : xs_A ct st T Z D av ea la) (hN : xs_N ct st T Z D eA lA)
    (hpost : ∀ lk ff fz av fo ea la ne nl eA lA, xs_lk Z ct ff fz fo → xs_A ct st T Z L av ea la → xs_N ct st T Z L eA lA → post (nI L, lk, ff, fz, nI L, av, sz, st, ct, sm, fo, ea, la, ne, nl, eA, lA)) :
    wpX_goThrough post (nI L, lk, ff, fz, nI D, av, sz, st, ct, sm, fo, ea, la, ne, nl, eA, lA) := by
  unfold wpX_goThrough
  dsimp only
  refine xw_link hok hlk (fun lk' ff' fz' fo' h => ?_)
  exact ⟨L + 1, xw_go4 hok hL hsm h (fun av ea la ne nl eA lA g1 g2 => hpost lk' ff' fz' av fo' ea la ne nl eA lA h g1 g2) (L + 1) D av ea la ne nl eA lA (by omega) hD hA hN⟩
end XG
end
section
/-! Y: all cuts tried -/
section YW
variable {mn : Int32} {sz st ct ys yf ym : Nat → Int32} {Z T : Nat → Nat}
theorem yw_al {post : Int32 → Prop} {c : Int32} {l : Nat} (hc : c = 0 ∨ c = 1 ∨ c = 2 ∨ c = 3) (hl : l < 100)
    (h1 : pw_al (c = 1 ∨ c = 2) (c = 2 ∨ c = 3) l → post 1) (h0 : ¬ pw_al (c = 1 ∨ c = 2) (c = 2 ∨ c = 3) l → post 0) : wpY_allows post (mn, sz, st, ct, ys, yf, ym) c (nI l) := by
  unfold wpY_allows
  dsimp only
  rcases hc with rfl | rfl | rfl | rfl
  · refine br_t rfl (pk_eq l 1 (fun e => h1 ⟨fun z => absurd z (by omega), fun z => absurd z (by omega)⟩) (fun e => h0 (fun g => ?_)))
    rcases Nat.lt_or_ge l 2 with z | z
    · exact absurd (g.1 (by omega)) (by decide)
    · exact absurd (g.2 z) (by decide)
  · exact br_f (by decide) (br_t rfl (pk_lt 1 l (fun e => h0 (fun g => absurd (g.2 (by omega)) (by decide))) (fun e => h1 ⟨fun _ => Or.inl rfl, fun z => absurd z (by omega)⟩)))
  · exact br_f (by decide) (br_f (by decide) (br_t rfl (h1 ⟨fun _ => Or.inr rfl, fun _ => Or.inl rfl⟩)))
  · exact br_f (by decide) (br_f (by decide) (br_f (by decide) (pk_lt l 1 (fun e => h0 (fun g => absurd (g.1 (by omega)) (by decide))) (fun e => h1 ⟨fun z => absurd z (by omega), fun _ => Or.inr rfl⟩))))
/-- a row of booleans says P -/
def ys_b (P : Nat → Prop) (a : Nat → Int32) (lo hi : Nat) : Prop := ∀ q, lo ≤ q → q ≤ hi → (P q ∧ a q = 1) ∨ (¬ P q ∧ a q = 0)
theorem ys_cg {P Q : Nat → Prop} {a : Nat → Int32} {lo hi : Nat} (h : ∀ c, lo ≤ c → c ≤ hi → (P c ↔ Q c)) (g : ys_b P a lo hi) : ys_b Q a lo hi := by
  intro q h1 h2
  rw [← h q h1 h2]
  exact g q h1 h2
theorem yw_e144 {post : SY → Prop} {P : Nat → Prop} {f N : Nat} (hN : N ≤ 61) (hm : ys_b P ym f N) (hpost : ∀ yf, ys_b P yf f N → post (mn, sz, st, ct, ys, yf, ym)) :
    ∀ (n q : Nat) (yf : Nat → Int32), N + 1 < n + q → f ≤ q → q ≤ N + 1 → (∀ c, f ≤ c → c < q → yf c = ym c) → wY_extend_144 post (nI N) mn n (nI q) sz st ct ys yf ym := by
  intro n
  induction n with
  | zero => intro q yf h1 h2 h3; omega
  | succ n ih =>
    intro q yf h1 h2 h3 h
    rw [wY_extend_144]
    by_cases e : q = N + 1
    · subst e
      refine br_t (nI_lt (by omega) (by omega)) (hpost yf ?_)
      intro c a b
      rw [h c a (by omega)]
      exact hm c a b
    · have c : (nI q).toNatClampNeg = q := nI_clamp (by omega)
      have v : vp_in (nI q) 62 := vp_in_nI (by omega) (by omega)
      have hb : vp_nar .boolean (ym q) = ym q := by
        rcases hm q h2 (by omega) with ⟨_, z⟩ | ⟨_, z⟩ <;> rw [z] <;> rfl
      refine br_f (nI_nlt (by omega) (by omega)) ?_
      rw [c, hb]
      refine ⟨v, v, nm_e (nm_r (nI_1 q) (ih (q + 1) _ (by omega) (by omega) (by omega) ?_))⟩
      intro d a b
      by_cases z : d = q
      · subst z; exact pk_us
      · rw [pk_un z]
        exact h d a (by omega)
theorem yw_e95 {post : SY → Prop} {J26 : Int32 → (Nat → Int32) → (Nat → Int32) → (Nat → Int32) → (Nat → Int32) → (Nat → Int32) → (Nat → Int32) → Prop} {J45 : Int32 → Int32 → (Nat → Int32) → (Nat → Int32) → (Nat → Int32) → (Nat → Int32) → (Nat → Int32) → (Nat → Int32) → Prop} {cell N q : Nat} {z0 x2 x4 : Int32} (hc : cell < 24) (hN : N ≤ 61) (hq : q ≤ N)
    (hz : vp_nar .boolean z0 = z0) (hT : ∀ j, j < N → ys j = nI (T j) ∧ T j < 4)
    (h1 : q < N → bt (st cell) (T q) = true → J45 1 (nI (q + 1)) sz st ct ys yf (upd ym q z0))
    (h0 : (q < N → ¬ bt (st cell) (T q) = true) → J45 0 (nI (q + 1)) sz st ct ys yf (upd ym q z0)) :
    wY_extend_95 post J26 J45 (nI cell) x2 (nI N) x4 (nI q) z0 (nI q) mn sz st ct ys yf ym := by
  have c1 : (nI q).toNatClampNeg = q := nI_clamp (by omega)
  have c2 : (nI cell).toNatClampNeg = cell := nI_clamp (by omega)
  unfold wY_extend_95
  rw [c1, c2, hz]
  refine ⟨vp_in_nI (by omega) (by omega), nm_e (pk_le N q (fun e => nm_r (nI_1 q) (h0 (fun g => absurd g (by omega)))) (fun e => ⟨vp_in_nI hc (by omega), vp_in_nI (by omega) (by omega), ?_⟩))⟩
  obtain ⟨t1, t2⟩ := hT q e
  rw [t1]
  by_cases z : bt (st cell) (T q) = true
  · exact br_t ((bw_t1 (by omega)).mpr z) (nm_r (nI_1 q) (h1 e z))
  · exact br_f (fun y => z ((bw_t1 (by omega)).mp y)) (nm_r (nI_1 q) (h0 (fun _ => z)))
/-- item 'cell' stands from s up to q, s being an end of the items so far -/
def ys_x (ct st : Nat → Int32) (T : Nat → Nat) (cell : Nat) (F : Nat → Prop) (s q : Nat) : Prop :=
  F s ∧ s ≤ q ∧ pw_al (ct cell = 1 ∨ ct cell = 2) (ct cell = 2 ∨ ct cell = 3) (q - s) ∧ ∀ j, s ≤ j → j < q → bt (st cell) (T j) = true
def ys_P (ct st : Nat → Int32) (T : Nat → Nat) (cell : Nat) (F : Nat → Prop) (f r q : Nat) : Prop := ∃ s, f ≤ s ∧ s < r ∧ ys_x ct st T cell F s q
theorem yw_e45 {post : SY → Prop} {J26 : Int32 → (Nat → Int32) → (Nat → Int32) → (Nat → Int32) → (Nat → Int32) → (Nat → Int32) → (Nat → Int32) → Prop} {cell f N r : Nat} {F : Nat → Prop} {x2 : Int32} (hc : cell < 24) (hct : ct cell = 0 ∨ ct cell = 1 ∨ ct cell = 2 ∨ ct cell = 3)
    (hN : N ≤ 61) (hT : ∀ j, j < N → ys j = nI (T j) ∧ T j < 4) (hfr : f ≤ r) (hr : r ≤ N)
    (hJ : ∀ ym, ys_b (ys_P ct st T cell F f (r + 1)) ym f N → J26 (nI (r + 1)) sz st ct ys yf ym) :
    ∀ (n q : Nat) (x : Int32) (ym : Nat → Int32), N + 1 < n + q → r ≤ q → q ≤ N + 1 →
    ys_b (fun c => ys_P ct st T cell F f r c ∨ (c < q ∧ ys_x ct st T cell F r c)) ym f N →
    (q ≤ N → (x = 1 ∧ F r ∧ ∀ j, r ≤ j → j < q → bt (st cell) (T j) = true) ∨ (x = 0 ∧ ¬ (F r ∧ ∀ j, r ≤ j → j < q → bt (st cell) (T j) = true))) →
    wY_extend_45 post J26 (nI cell) x2 (nI N) (nI r) mn n x (nI q) sz st ct ys yf ym := by
  intro n
  induction n with
  | zero => intro q x ym h1 h2 h3; omega
  | succ n ih =>
    intro q x ym h1 h2 h3 hb hx
    have hP : ∀ c, c ≤ N → (q ≤ c → ¬ ys_x ct st T cell F r c) → ((ys_P ct st T cell F f r c ∨ (c < q ∧ ys_x ct st T cell F r c)) ↔ ys_P ct st T cell F f (r + 1) c) := by
      intro c hcN hno
      constructor
      · intro g
        rcases g with ⟨s, g1, g2, g3⟩ | ⟨g1, g2⟩
        · exact ⟨s, g1, by omega, g3⟩
        · exact ⟨r, hfr, by omega, g2⟩
      · intro g
        obtain ⟨s, g1, g2, g3⟩ := g
        by_cases z : s = r
        · subst z
          exact Or.inr ⟨Nat.lt_of_not_le (fun y => hno y g3), g3⟩
        · exact Or.inl ⟨s, g1, by omega, g3⟩
    rw [wY_extend_45]
    by_cases e : q = N + 1
    · subst e
      exact br_t (nI_lt (by omega) (by omega)) (nm_r (nI_1 r) (hJ ym (ys_cg (fun c _ b => hP c b (fun z => absurd z (by omega))) hb)))
    · have hqN : q ≤ N := by omega
      refine br_f (nI_nlt (by omega) (by omega)) ?_
      rcases hx hqN with ⟨rfl, hF, hall⟩ | ⟨rfl, hn⟩
      · have c1 : (nI q).toNatClampNeg = q := nI_clamp (by omega)
        have c2 : (nI cell).toNatClampNeg = cell := nI_clamp (by omega)
        have K : ∀ z0 : Int32, ((z0 = 1 ∧ (ys_P ct st T cell F f r q ∨ pw_al (ct cell = 1 ∨ ct cell = 2) (ct cell = 2 ∨ ct cell = 3) (q - r))) ∨
            (z0 = 0 ∧ ¬ (ys_P ct st T cell F f r q ∨ pw_al (ct cell = 1 ∨ ct cell = 2) (ct cell = 2 ∨ ct cell = 3) (q - r)))) →
            wY_extend_95 post J26 (wY_extend_45 post J26 (nI cell) x2 (nI N) (nI r) mn n) (nI cell) x2 (nI N) (nI r) (nI q) z0 (nI q) mn sz st ct ys yf ym := by
          intro z0 hz0
          have hb' : ys_b (fun c => ys_P ct st T cell F f r c ∨ (c < q + 1 ∧ ys_x ct st T cell F r c)) (upd ym q z0) f N := by
            intro c a b
            by_cases z : c = q
            · subst z
              rw [pk_us]
              have hi : (ys_P ct st T cell F f r c ∨ (c < c + 1 ∧ ys_x ct st T cell F r c)) ↔ (ys_P ct st T cell F f r c ∨ pw_al (ct cell = 1 ∨ ct cell = 2) (ct cell = 2 ∨ ct cell = 3) (c - r)) :=
                ⟨fun g => g.elim Or.inl (fun g => Or.inr g.2.2.2.1), fun g => g.elim Or.inl (fun g => Or.inr ⟨by omega, hF, h2, g, hall⟩)⟩
              show ((ys_P ct st T cell F f r c ∨ (c < c + 1 ∧ ys_x ct st T cell F r c)) ∧ z0 = 1) ∨ (¬ (ys_P ct st T cell F f r c ∨ (c < c + 1 ∧ ys_x ct st T cell F r c)) ∧ z0 = 0)
              rw [hi]
              exact hz0.elim (fun g => Or.inl ⟨g.2, g.1⟩) (fun g => Or.inr ⟨g.2, g.1⟩)
            · rw [pk_un z]
              have hi : (ys_P ct st T cell F f r c ∨ (c < q ∧ ys_x ct st T cell F r c)) ↔ (ys_P ct st T cell F f r c ∨ (c < q + 1 ∧ ys_x ct st T cell F r c)) :=
                ⟨fun g => g.elim Or.inl (fun g => Or.inr ⟨by omega, g.2⟩), fun g => g.elim Or.inl (fun g => Or.inr ⟨by omega, g.2⟩)⟩
              show ((ys_P ct st T cell F f r c ∨ (c < q + 1 ∧ ys_x ct st T cell F r c)) ∧ ym c = 1) ∨ (¬ (ys_P ct st T cell F f r c ∨ (c < q + 1 ∧ ys_x ct st T cell F r c)) ∧ ym c = 0)
              rw [← hi]
              exact hb c a b
          have hzn : vp_nar .boolean z0 = z0 := by
            rcases hz0 with ⟨rfl, _⟩ | ⟨rfl, _⟩ <;> rfl
          refine yw_e95 hc hN hqN hzn hT (fun g1 g2 => ?_) (fun g => ?_)
          · refine ih (q + 1) 1 _ (by omega) (by omega) (by omega) hb' (fun _ => Or.inl ⟨rfl, hF, fun j a b => ?_⟩)
            by_cases z : j = q
            · subst z; exact g2
            · exact hall j a (by omega)
          · exact ih (q + 1) 0 _ (by omega) (by omega) (by omega) hb' (fun z => Or.inr ⟨rfl, fun y => g (by omega) (y.2 q h2 (by omega))⟩)
        refine br_f (by decide) ⟨vp_in_nI (by omega) (by omega), ?_⟩
        rw [c1, c2, pk_sub h2]
        rcases hb q (by omega) hqN with ⟨g, e1⟩ | ⟨g, e0⟩
        · refine br_f (by rw [e1]; decide) ?_
          unfold wY_extend_90
          exact K 1 (Or.inl ⟨rfl, g.elim Or.inl (fun y => absurd y.1 (by omega))⟩)
        · refine br_t e0 ⟨vp_in_nI hc (by omega), yw_al hct (by omega) (fun ha => br_f (by decide) ?_) (fun ha => br_t rfl (K 0 (Or.inr ⟨rfl, fun y => y.elim (fun y => g (Or.inl y)) ha⟩)))⟩
          unfold wY_extend_90
          exact K 1 (Or.inl ⟨rfl, Or.inr ha⟩)
      · exact br_t rfl (nm_r (nI_1 r) (hJ ym (ys_cg (fun c _ b => hP c b (fun z g => hn ⟨g.1, fun j a b' => g.2.2.2 j a (by omega)⟩)) hb)))
theorem yw_e26 {post : SY → Prop} {cell f N : Nat} {F : Nat → Prop} (hc : cell < 24) (hct : ct cell = 0 ∨ ct cell = 1 ∨ ct cell = 2 ∨ ct cell = 3)
    (hN : N ≤ 61) (hT : ∀ j, j < N → ys j = nI (T j) ∧ T j < 4) (hF : ys_b F yf f N) (hfN : f ≤ N)
    (hpost : ∀ yf ym, ys_b (ys_P ct st T cell F f (N + 1)) yf f N → post (mn, sz, st, ct, ys, yf, ym)) :
    ∀ (n r : Nat) (ym : Nat → Int32), N + 1 < n + r → f ≤ r → r ≤ N + 1 → ys_b (ys_P ct st T cell F f r) ym f N → wY_extend_26 post (nI cell) (nI f) (nI N) mn n (nI r) sz st ct ys yf ym := by
  intro n
  induction n with
  | zero => intro r ym h1 h2 h3; omega
  | succ n ih =>
    intro r ym h1 h2 h3 h
    rw [wY_extend_26]
    by_cases e : r = N + 1
    · subst e
      exact br_t (nI_lt (by omega) (by omega)) ⟨N + 2, yw_e144 hN h (fun yf g => hpost yf ym g) (N + 2) f yf (by omega) (Nat.le_refl f) (by omega) (fun c a b => absurd a (by omega))⟩
    · have c : (nI r).toNatClampNeg = r := nI_clamp (by omega)
      refine br_f (nI_nlt (by omega) (by omega)) ⟨vp_in_nI (by omega) (by omega), nm_e ?_⟩
      rw [c]
      refine ⟨N + 2, yw_e45 hc hct hN hT h2 (by omega) (fun ym' g => ih (r + 1) ym' (by omega) (by omega) (by omega) g) (N + 2) r (yf r) ym (by omega) (Nat.le_refl r) (by omega) (ys_cg (fun c _ _ => ?_) h) (fun _ => ?_)⟩
      · exact ⟨fun g => Or.inl g, fun g => g.elim id (fun g => absurd g.2.2.1 (by omega))⟩
      · rcases hF r h2 (by omega) with ⟨g, g1⟩ | ⟨g, g1⟩
        · exact Or.inl ⟨g1, g, fun j a b => absurd a (by omega)⟩
        · exact Or.inr ⟨g1, fun y => g y.1⟩
theorem yw_e3 {post : SY → Prop} {cell f N : Nat} {F : Nat → Prop} (hc : cell < 24) (hct : ct cell = 0 ∨ ct cell = 1 ∨ ct cell = 2 ∨ ct cell = 3)
    (hN : N ≤ 61) (hT : ∀ j, j < N → ys j = nI (T j) ∧ T j < 4) (hF : ys_b F yf f N) (hfN : f ≤ N)
    (hpost : ∀ yf ym, ys_b (ys_P ct st T cell F f (N + 1)) yf f N → post (mn, sz, st, ct, ys, yf, ym)) :
    ∀ (n q : Nat) (ym : Nat → Int32), N + 1 < n + q → f ≤ q → q ≤ N + 1 → (∀ c, f ≤ c → c < q → ym c = 0) → wY_extend_3 post (nI cell) (nI f) (nI N) mn n (nI q) sz st ct ys yf ym := by
  intro n
  induction n with
  | zero => intro q ym h1 h2 h3; omega
  | succ n ih =>
    intro q ym h1 h2 h3 h
    rw [wY_extend_3]
    by_cases e : q = N + 1
    · subst e
      refine br_t (nI_lt (by omega) (by omega)) ⟨N + 2, yw_e26 hc hct hN hT hF hfN hpost (N + 2) f ym (by omega) (Nat.le_refl f) (by omega) ?_⟩
      intro c a b
      exact Or.inr ⟨fun ⟨s, s1, s2, _⟩ => absurd s1 (by omega), h c a (by omega)⟩
    · have c : (nI q).toNatClampNeg = q := nI_clamp (by omega)
      refine br_f (nI_nlt (by omega) (by omega)) ?_
      rw [c, bw_bo0]
      refine ⟨vp_in_nI (by omega) (by omega), nm_e (nm_r (nI_1 q) (ih (q + 1) _ (by omega) (by omega) (by omega) ?_))⟩
      intro d a b
      by_cases z : d = q
      · subst z; exact pk_us
      · rw [pk_un z]
        exact h d a (by omega)
theorem yw_ext {post : SY → Prop} {cell f N : Nat} {F : Nat → Prop} (hc : cell < 24) (hct : ct cell = 0 ∨ ct cell = 1 ∨ ct cell = 2 ∨ ct cell = 3)
    (hN : N ≤ 61) (hT : ∀ j, j < N → ys j = nI (T j) ∧ T j < 4) (hF : ys_b F yf f N) (hfN : f ≤ N)
    (hpost : ∀ yf ym, ys_b (ys_P ct st T cell F f (N + 1)) yf f N → post (mn, sz, st, ct, ys, yf, ym)) : wpY_extend post (mn, sz, st, ct, ys, yf, ym) (nI cell) (nI f) (nI N) := by
  unfold wpY_extend
  dsimp only
  exact ⟨N + 2, yw_e3 hc hct hN hT hF hfN hpost (N + 2) f ym (by omega) (Nat.le_refl f) (by omega) (fun c a b => absurd a (by omega))⟩
theorem yw_w36 {post : SY → Prop} {p f N : Nat} (hok : dw_ok Z sz ct) (hp : p < 4) (hN : N ≤ 61) (hfN : f ≤ N) (hT : ∀ j, j < N → ys j = nI (T j) ∧ T j < 4)
    (hpost : ∀ yf ym, ys_b (fun q => dw_fit ct st T p f (Z p) q) yf f N → post (mn, sz, st, ct, ys, yf, ym)) :
    ∀ (n k : Nat) (yf ym : Nat → Int32), Z p < n + k → k ≤ Z p → ys_b (fun q => dw_fit ct st T p f k q) yf f N → wY_work_36 post (nI p) (nI f) (nI N) n (nI k) mn sz st ct ys yf ym := by
  obtain ⟨hz, hz6⟩ := hok.1 p hp
  intro n
  induction n with
  | zero => intro k yf ym h1 h2; omega
  | succ n ih =>
    intro k yf ym h1 h2 h
    have c : (nI p).toNatClampNeg = p := nI_clamp (by omega)
    rw [wY_work_36]
    dsimp only
    rw [c, hz, bw_6c]
    refine ⟨vp_in_nI hp (by omega), ?_⟩
    by_cases e : k = Z p
    · rw [e] at h
      exact br_t (by rw [e]; exact nI_le (Nat.le_refl _) (by omega)) (hpost yf ym h)
    · refine br_f (nI_ge (by omega) (by omega)) (yw_ext (by omega) (hok.2 _ (by omega)) hN hT h hfN (fun yf' ym' g => ?_))
      refine nm_r (nI_1 k) (ih (k + 1) yf' ym' (by omega) (by omega) (ys_cg (fun q a b => ?_) g))
      constructor
      · intro y
        obtain ⟨s, _, _, y1, y2, y3, y4⟩ := y
        exact ⟨s, y1, y2, y3, y4⟩
      · intro y
        obtain ⟨s, y1, y2, y3, y4⟩ := y
        exact ⟨s, pw_fit_le k s y1, by omega, y1, y2, y3, y4⟩
theorem yw_w3 {post : SY → Prop} {p f N : Nat} (hok : dw_ok Z sz ct) (hp : p < 4) (hN : N ≤ 61) (hfN : f ≤ N) (hT : ∀ j, j < N → ys j = nI (T j) ∧ T j < 4)
    (hpost : ∀ yf ym, ys_b (fun q => dw_fit ct st T p f (Z p) q) yf f N → post (mn, sz, st, ct, ys, yf, ym)) :
    ∀ (n q : Nat) (yf : Nat → Int32), N + 1 < n + q → f ≤ q → q ≤ N + 1 → (∀ c, f ≤ c → c < q → (c = f ∧ yf c = 1) ∨ (¬ c = f ∧ yf c = 0)) → wY_work_3 post (nI p) (nI f) (nI N) mn n (nI q) sz st ct ys yf ym := by
  intro n
  induction n with
  | zero => intro q yf h1 h2 h3; omega
  | succ n ih =>
    intro q yf h1 h2 h3 h
    rw [wY_work_3]
    by_cases e : q = N + 1
    · subst e
      exact br_t (nI_lt (by omega) (by omega)) ⟨Z p + 1, yw_w36 hok hp hN hfN hT hpost (Z p + 1) 0 yf ym (by omega) (by omega) (fun c a b => h c a (by omega))⟩
    · have c : (nI q).toNatClampNeg = q := nI_clamp (by omega)
      have v : vp_in (nI q) 62 := vp_in_nI (by omega) (by omega)
      refine br_f (nI_nlt (by omega) (by omega)) ?_
      rw [c, bw_bo0, bw_bo1]
      refine pk_eq q f (fun z => ⟨v, nm_e (nm_r (nI_1 q) (ih (q + 1) _ (by omega) (by omega) (by omega) ?_))⟩) (fun z => ⟨v, nm_e (nm_r (nI_1 q) (ih (q + 1) _ (by omega) (by omega) (by omega) ?_))⟩)
      · intro d a b
        by_cases y : d = q
        · subst y; exact Or.inl ⟨z, pk_us⟩
        · rw [pk_un y]
          exact h d a (by omega)
      · intro d a b
        by_cases y : d = q
        · subst y; exact Or.inr ⟨z, pk_us⟩
        · rw [pk_un y]
          exact h d a (by omega)
theorem yw_work {post : SY → Prop} {p f N : Nat} (hok : dw_ok Z sz ct) (hp : p < 4) (hN : N ≤ 61) (hfN : f ≤ N) (hT : ∀ j, j < N → ys j = nI (T j) ∧ T j < 4)
    (hpost : ∀ yf ym, ys_b (fun q => dw_fit ct st T p f (Z p) q) yf f N → post (mn, sz, st, ct, ys, yf, ym)) : wpY_work post (mn, sz, st, ct, ys, yf, ym) (nI p) (nI f) (nI N) := by
  unfold wpY_work
  dsimp only
  exact ⟨N + 2, yw_w3 hok hp hN hfN hT hpost (N + 2) f yf (by omega) (Nat.le_refl f) (by omega) (fun c a b => absurd a (by omega))⟩
theorem yw_ea6 {post : Int32 → SY → Prop} {p t : Nat} (hok : dw_ok Z sz ct) (hp : p < 4) (ht : t ≤ 60) (hT : ∀ j, j < t + 1 → ys j = nI (T j) ∧ T j < 4)
    (h1 : (∃ f, dw_mt ct st T Z p f t) → ∀ yf ym, post 1 (mn, sz, st, ct, ys, yf, ym)) (h0 : (¬ ∃ f, dw_mt ct st T Z p f t) → ∀ yf ym, post 0 (mn, sz, st, ct, ys, yf, ym)) :
    ∀ (n g : Nat) (x : Int32) (yf ym : Nat → Int32), t + 1 < n + g → g ≤ t + 1 →
    ((x = 1 ∧ ∃ f, f < g ∧ dw_fit ct st T p f (Z p) (t + 1)) ∨ (x = 0 ∧ ∀ f, f < g → ¬ dw_fit ct st T p f (Z p) (t + 1))) →
    wY_endsAt_6 post (nI p) (nI t) (nI (t + 1)) n x (nI g) mn sz st ct ys yf ym := by
  intro n
  induction n with
  | zero => intro g x yf ym q1 q2; omega
  | succ n ih =>
    intro g x yf ym q1 q2 hx
    rw [wY_endsAt_6]
    by_cases e : g = t + 1
    · subst e
      refine br_t (nI_lt (by omega) (by omega)) ?_
      rcases hx with ⟨rfl, f, f1, f2⟩ | ⟨rfl, hn⟩
      · exact ⟨rfl, h1 ⟨f, by omega, f2⟩ yf ym⟩
      · exact ⟨rfl, h0 (fun ⟨f, f1, f2⟩ => hn f (by omega) f2) yf ym⟩
    · refine br_f (nI_nlt (by omega) (by omega)) (yw_work hok hp (by omega) (by omega) hT (fun yf' ym' hb => ?_))
      have c : (nI t + 1).toNatClampNeg = t + 1 := by rw [nI_1 t]; exact nI_clamp (by omega)
      have v : vp_in (nI t + 1) 62 := by rw [nI_1 t]; exact vp_in_nI (by omega) (by omega)
      rcases hx with ⟨rfl, f, f1, f2⟩ | ⟨rfl, hn⟩
      · exact br_f (by decide) (nm_r (nI_1 g) (ih (g + 1) 1 yf' ym' (by omega) (by omega) (Or.inl ⟨rfl, f, by omega, f2⟩)))
      · refine br_t rfl ⟨v, ?_⟩
        rw [c]
        rcases hb (t + 1) (by omega) (by omega) with ⟨g1, g2⟩ | ⟨g1, g2⟩
        · exact br_f (by rw [g2]; decide) (nm_r (nI_1 g) (ih (g + 1) 1 yf' ym' (by omega) (by omega) (Or.inl ⟨rfl, g, by omega, g1⟩)))
        · refine br_t g2 (nm_r (nI_1 g) (ih (g + 1) 0 yf' ym' (by omega) (by omega) (Or.inr ⟨rfl, fun f hf => ?_⟩)))
          by_cases z : f = g
          · subst z; exact g1
          · exact hn f (by omega)
theorem yw_ea {post : Int32 → SY → Prop} {p t : Nat} (hok : dw_ok Z sz ct) (hp : p < 4) (ht : t ≤ 60) (hT : ∀ j, j < t + 1 → ys j = nI (T j) ∧ T j < 4)
    (h1 : (∃ f, dw_mt ct st T Z p f t) → ∀ yf ym, post 1 (mn, sz, st, ct, ys, yf, ym)) (h0 : (¬ ∃ f, dw_mt ct st T Z p f t) → ∀ yf ym, post 0 (mn, sz, st, ct, ys, yf, ym)) :
    wpY_endsAt post (mn, sz, st, ct, ys, yf, ym) (nI p) (nI t) (nI (t + 1)) := by
  unfold wpY_endsAt
  dsimp only
  exact ⟨t + 2, yw_ea6 hok hp ht hT h1 h0 (t + 2) 0 0 yf ym (by omega) (by omega) (Or.inr ⟨rfl, fun f hf => absurd hf (Nat.not_lt_zero f)⟩)⟩
end YW
end
section
/-! X: the answers -/
section XS
/-- a set of the first four numbers -/
def sp_set (r : Int32) (Q : Nat → Prop) : Prop := ∀ i, i < 32 → (bt r i = true ↔ i < 4 ∧ Q i)
def sp_lo (r : Int32) (P : Nat → Prop) : Prop := (r = -1 ∧ ∀ f, ¬ P f) ∨ ∃ a, r = nI a ∧ P a ∧ ∀ f, P f → a ≤ f
def sp_hi (r : Int32) (P : Nat → Prop) : Prop := (r = -1 ∧ ∀ f, ¬ P f) ∨ ∃ a, r = nI a ∧ P a ∧ ∀ f, P f → f ≤ a
theorem sp_set_uq {r r' : Int32} {Q : Nat → Prop} (h : sp_set r Q) (h' : sp_set r' Q) : r' = r := bw_uq h h'
theorem sp_lo_uq {r r' : Int32} {P : Nat → Prop} (h : sp_lo r P) (h' : sp_lo r' P) : r' = r := by
  rcases h with ⟨e, n⟩ | ⟨a, e, p, m⟩ <;> rcases h' with ⟨e', n'⟩ | ⟨a', e', p', m'⟩
  · rw [e, e']
  · exact absurd p' (n a')
  · exact absurd p (n' a)
  · rw [e, e', Nat.le_antisymm (m' a p) (m a' p')]
theorem sp_hi_uq {r r' : Int32} {P : Nat → Prop} (h : sp_hi r P) (h' : sp_hi r' P) : r' = r := by
  rcases h with ⟨e, n⟩ | ⟨a, e, p, m⟩ <;> rcases h' with ⟨e', n'⟩ | ⟨a', e', p', m'⟩
  · rw [e, e']
  · exact absurd p' (n a')
  · exact absurd p (n' a)
  · rw [e, e', Nat.le_antisymm (m a' p') (m' a p)]
theorem sp_ans {P : Nat → Prop} {x y : Int32} (h : pw_ans P x y) : sp_lo x P ∧ sp_hi y P := by
  rcases h with ⟨e1, e2, n⟩ | ⟨a, b, _, _, e1, e2, pa, pb, m⟩
  · exact ⟨Or.inl ⟨e1, n⟩, Or.inl ⟨e2, n⟩⟩
  · exact ⟨Or.inr ⟨a, e1, pa, fun f hf => (m f hf).1⟩, Or.inr ⟨b, e2, pb, fun f hf => (m f hf).2⟩⟩
theorem sp_neg {P : Nat → Prop} {x y : Int32} (h : pw_ans P x y) : y < 0 ↔ ¬ ∃ f, P f := by
  rcases h with ⟨_, rfl, n⟩ | ⟨a, b, _, hb, _, rfl, pa, _⟩
  · exact ⟨fun _ ⟨f, hf⟩ => n f hf, fun _ => by decide⟩
  · exact ⟨fun z => absurd z (pw_nneg hb), fun z => absurd ⟨a, pa⟩ z⟩
/-- counting, with a proposition -/
noncomputable def dw_b (P : Prop) : Nat := @ite Nat P (Classical.propDecidable P) 1 0
theorem dw_b1 {P : Prop} (h : P) : dw_b P = 1 := if_pos h
theorem dw_b0 {P : Prop} (h : ¬ P) : dw_b P = 0 := if_neg h
noncomputable def dw_cnt (Q : Nat → Prop) : Nat → Nat
  | 0 => 0
  | n + 1 => dw_cnt Q n + dw_b (Q n)
theorem dw_cnt1 {Q : Nat → Prop} {n : Nat} (h : Q n) : dw_cnt Q (n + 1) = dw_cnt Q n + 1 := by
  show dw_cnt Q n + dw_b (Q n) = _
  rw [dw_b1 h]
theorem dw_cnt0 {Q : Nat → Prop} {n : Nat} (h : ¬ Q n) : dw_cnt Q (n + 1) = dw_cnt Q n := by
  show dw_cnt Q n + dw_b (Q n) = _
  rw [dw_b0 h, Nat.add_zero]
def sp_first (r : Int32) (Q : Nat → Prop) (L : Nat) : Prop := (r = -1 ∧ ∀ t, t < L → ¬ Q t) ∨ ∃ t, t < L ∧ r = nI t ∧ Q t ∧ ∀ t', t' < t → ¬ Q t'
theorem sp_first_uq {r r' : Int32} {Q : Nat → Prop} {L : Nat} (h : sp_first r Q L) (h' : sp_first r' Q L) : r' = r := by
  rcases h with ⟨e, n⟩ | ⟨a, l, e, p, m⟩ <;> rcases h' with ⟨e', n'⟩ | ⟨a', l', e', p', m'⟩
  · rw [e, e']
  · exact absurd p' (n a' l')
  · exact absurd p (n' a l)
  · have h1 : ¬ a < a' := fun z => m' a z p
    have h2 : ¬ a' < a := fun z => m a' z p'
    rw [e, e', show a' = a by omega]
/-- the greatest length -/
def sp_mx (S : Nat → Nat → Prop) (b : Nat) : Prop := b ≤ 60 ∧ (b = 0 ∨ ∃ f t, S f t ∧ b = t + 1 - f) ∧ ∀ f t, S f t → t + 1 - f ≤ b
theorem sp_mx_uq {S : Nat → Nat → Prop} {b b' : Nat} (h : sp_mx S b) (h' : sp_mx S b') : b' = b := by
  obtain ⟨_, h1, h2⟩ := h
  obtain ⟨_, h1', h2'⟩ := h'
  have q1 : b ≤ b' := by
    rcases h1 with h1 | ⟨f, t, s, e⟩
    · omega
    · have := h2' f t s; omega
  have q2 : b' ≤ b := by
    rcases h1' with h1' | ⟨f, t, s, e⟩
    · omega
    · have := h2 f t s; omega
  omega
theorem sp_mx_cg {S S' : Nat → Nat → Prop} {b : Nat} (h : sp_mx S b) (g : ∀ f t, S' f t ↔ S f t) : sp_mx S' b := by
  obtain ⟨h0, h1, h2⟩ := h
  refine ⟨h0, h1.imp id (fun ⟨f, t, s, e⟩ => ⟨f, t, (g f t).mpr s, e⟩), fun f t s => h2 f t ((g f t).mp s)⟩
theorem sp_mx_le {S S' N : Nat → Nat → Prop} {b c : Nat} (h : sp_mx S b) (g : ∀ f t, S' f t ↔ S f t ∨ N f t) (hN : ∀ f t, N f t → t + 1 - f ≤ c) (hc : c ≤ b) : sp_mx S' b := by
  obtain ⟨h0, h1, h2⟩ := h
  refine ⟨h0, h1.imp id (fun ⟨f, t, s, e⟩ => ⟨f, t, (g f t).mpr (Or.inl s), e⟩), fun f t s => ?_⟩
  rcases (g f t).mp s with s | s
  · exact h2 f t s
  · have := hN f t s; omega
theorem sp_mx_gt {S S' N : Nat → Nat → Prop} {b c : Nat} (h : sp_mx S b) (g : ∀ f t, S' f t ↔ S f t ∨ N f t) (hN : ∀ f t, N f t → t + 1 - f ≤ c) (hc : b < c) (h60 : c ≤ 60) (hex : ∃ f t, N f t ∧ c = t + 1 - f) : sp_mx S' c := by
  obtain ⟨h0, h1, h2⟩ := h
  obtain ⟨f, t, s, e⟩ := hex
  refine ⟨h60, Or.inr ⟨f, t, (g f t).mpr (Or.inr s), e⟩, fun f t s => ?_⟩
  rcases (g f t).mp s with s | s
  · have := h2 f t s; omega
  · exact hN f t s
/-- the stream with one more symbol -/
def dw_T (T : Nat → Nat) (L s : Nat) : Nat → Nat := fun j => if j = L then s else T j
theorem dw_Ts {T : Nat → Nat} {L s : Nat} : dw_T T L s L = s := if_pos rfl
theorem dw_Tn {T : Nat → Nat} {L s j : Nat} (h : j < L) : dw_T T L s j = T j := if_neg (by omega)
end XS
section XR
variable {ln lk ff fz dn av : Int32} {sz st ct sm fo ea la ne nl eA lA : Nat → Int32} {Z T : Nat → Nat} {L : Nat} {u : SX}
/-- X's state: L symbols T, sizes Z -/
def xw_R (L : Nat) (Z T : Nat → Nat) (sz st ct : Nat → Int32) (u : SX) : Prop := match u with
  | (ln, lk, ff, fz, dn, av, sz', st', ct', sm, fo, ea, la, ne, nl, eA, lA) => ∃ D, D ≤ L ∧ ln = nI L ∧ dn = nI D ∧ sz' = sz ∧ st' = st ∧ ct' = ct ∧ dw_ok Z sz ct ∧ L ≤ 60 ∧
      (∀ j, j < L → sm j = nI (T j) ∧ T j < 4) ∧ (lk = 0 ∨ xs_lk Z ct ff fz fo) ∧ xs_A ct st T Z D av ea la ∧ xs_N ct st T Z D eA lA
theorem xw_goR {post : SX → Prop} (h : xw_R L Z T sz st ct u)
    (hpost : ∀ lk ff fz av sm fo ea la ne nl eA lA, xs_lk Z ct ff fz fo → xs_A ct st T Z L av ea la → xs_N ct st T Z L eA lA → xw_R L Z T sz st ct (nI L, lk, ff, fz, nI L, av, sz, st, ct, sm, fo, ea, la, ne, nl, eA, lA) → post (nI L, lk, ff, fz, nI L, av, sz, st, ct, sm, fo, ea, la, ne, nl, eA, lA)) :
    wpX_goThrough post u := by
  obtain ⟨ln, lk, ff, fz, dn, av, sz', st', ct', sm, fo, ea, la, ne, nl, eA, lA⟩ := u
  obtain ⟨D, hD, rfl, rfl, rfl, rfl, rfl, hok, hL, hsm, hlk, hA, hN⟩ := h
  exact xw_go hok hL hD hsm hlk hA hN (fun lk ff fz av fo ea la ne nl eA lA g1 g2 g3 => hpost lk ff fz av sm fo ea la ne nl eA lA g1 g2 g3 ⟨L, Nat.le_refl L, rfl, rfl, rfl, rfl, rfl, hok, hL, hsm, Or.inr g1, g2, g3⟩)
theorem xw_pt1 {post : Int32 → Prop} {p : Nat} (hp : p < 4) (h : post 1) : wpX_isPattern post (nI p) := by
  unfold wpX_isPattern
  exact br_f (nI_pos (by omega)) (br_f (nI_ge (b := 4) (by omega) (by omega)) h)
theorem xw_pt0 {post : Int32 → Prop} {x : Int32} (hx : ∀ p, p < 4 → x ≠ nI p) (h : post 0) : wpX_isPattern post x := by
  unfold wpX_isPattern
  refine br_c (fun _ => h) (fun z => br_c (fun _ => h) (fun y => ?_))
  obtain ⟨j, hj, rfl⟩ := nI_of z
  exact absurd rfl (hx j (Nat.lt_of_not_le (fun w => y (nI_le (a := 4) w hj))))
theorem xw_pl1 {post : Int32 → Prop} {t : Nat} (hL : L ≤ 60) (ht : t < L) (h : post 1) : wpX_isPlace post (nI L, lk, ff, fz, dn, av, sz, st, ct, sm, fo, ea, la, ne, nl, eA, lA) (nI t) := by
  unfold wpX_isPlace
  exact br_f (nI_pos (by omega)) (br_f (nI_ge ht (by omega)) h)
theorem xw_pl0 {post : Int32 → Prop} {x : Int32} (hL : L ≤ 60) (hx : ∀ t, t < L → x ≠ nI t) (h : post 0) : wpX_isPlace post (nI L, lk, ff, fz, dn, av, sz, st, ct, sm, fo, ea, la, ne, nl, eA, lA) x := by
  unfold wpX_isPlace
  refine br_c (fun _ => h) (fun z => br_c (fun _ => h) (fun y => ?_))
  obtain ⟨j, hj, rfl⟩ := nI_of z
  exact absurd rfl (hx j (Nat.lt_of_not_le (fun w => y (nI_le w hj))))
/-! endingAt -/
theorem xw_ea18 {post : Int32 → SX → Prop} {t : Nat} {P : Nat → Nat → Prop} (ht : t < 60) (hans : ∀ p, p < 4 → pw_ans (P p) (eA (4 * t + p)) (lA (4 * t + p)))
    (hpost : ∀ r, sp_set r (fun p => ∃ f, P p f) → post r (ln, lk, ff, fz, dn, av, sz, st, ct, sm, fo, ea, la, ne, nl, eA, lA)) :
    ∀ (n p : Nat) (x : Int32), 4 < n + p → p ≤ 4 → (∀ i, i < 32 → (bt x i = true ↔ i < p ∧ ∃ f, P i f)) → wX_endingAt_18 post (nI t) ln lk ff fz dn av sz st ct sm fo ea la ne nl eA lA n x (nI p) := by
  intro n
  induction n with
  | zero => intro p x h1 h2; omega
  | succ n ih =>
    intro p x h1 h2 h
    rw [wX_endingAt_18]
    by_cases e : p = 4
    · subst e
      exact br_t (nI_le (a := 4) (Nat.le_refl _) (by omega)) (hpost x h)
    · have c : (nI (4 * t + p)).toNatClampNeg = 4 * t + p := nI_clamp (by omega)
      have hn := sp_neg (hans p (by omega))
      refine br_f (nI_ge (b := 4) (by omega) (by omega)) ?_
      rw [bw_c4, c]
      refine ⟨vp_in_nI (by omega) (by omega), br_c (fun z => nm_e (nm_r (nI_1 p) (ih (p + 1) _ (by omega) (by omega) ?_))) (fun z => nm_e (nm_r (nI_1 p) (ih (p + 1) _ (by omega) (by omega) ?_)))⟩
      · intro i hi
        rw [bw_or, h i hi]
        constructor
        · intro g
          rcases g with g | g
          · exact ⟨by omega, g.2⟩
          · exact absurd g bw_0
        · intro g
          by_cases q : i = p
          · subst q; exact absurd g.2 (hn.mp z)
          · exact Or.inl ⟨by omega, g.2⟩
      · intro i hi
        rw [bw_or, h i hi, bw_one (by omega) hi]
        constructor
        · intro g
          rcases g with g | g
          · exact ⟨by omega, g.2⟩
          · subst g
            exact ⟨by omega, Classical.byContradiction (fun y => z (hn.mpr y))⟩
        · intro g
          by_cases q : i = p
          · exact Or.inr q
          · exact Or.inl ⟨by omega, g.2⟩
theorem xw_endA1 {post : Int32 → SX → Prop} {t : Nat} (h : xw_R L Z T sz st ct u) (ht : t < L)
    (hpost : ∀ r u', sp_set r (fun p => ∃ f, dw_mt ct st T Z p f t) → xw_R L Z T sz st ct u' → post r u') : wpX_endingAt post u (nI t) := by
  obtain ⟨ln, lk, ff, fz, dn, av, sz', st', ct', sm, fo, ea, la, ne, nl, eA, lA⟩ := u
  have h' := h
  obtain ⟨D, hD, rfl, rfl, rfl, rfl, rfl, hok, hL, hsm, hlk, hA, hN⟩ := h
  unfold wpX_endingAt
  dsimp only
  refine xw_pl1 hL ht (br_f (by decide) (xw_goR h' (fun lk ff fz av sm fo ea la ne nl eA lA g1 g2 g3 g4 => ?_)))
  exact ⟨5, xw_ea18 (by omega) (fun p hp => g3 t p ht hp) (fun r hr => hpost r _ hr g4) 5 0 0 (by omega) (by omega) (fun i _ => ⟨fun y => absurd y bw_0, fun y => absurd y.1 (Nat.not_lt_zero i)⟩)⟩
theorem xw_endA0 {post : Int32 → SX → Prop} {x : Int32} (h : xw_R L Z T sz st ct u) (hx : ∀ t, t < L → x ≠ nI t) (hpost : post 0 u) : wpX_endingAt post u x := by
  obtain ⟨ln, lk, ff, fz, dn, av, sz', st', ct', sm, fo, ea, la, ne, nl, eA, lA⟩ := u
  obtain ⟨D, hD, rfl, rfl, rfl, rfl, rfl, hok, hL, hsm, hlk, hA, hN⟩ := h
  unfold wpX_endingAt
  dsimp only
  exact xw_pl0 hL hx (br_t rfl hpost)
/-! ends -/
theorem xw_en17 {post : Int32 → SX → Prop} {p : Nat} {P : Nat → Nat → Prop} (hL : L ≤ 60) (hp : p < 4) (hans : ∀ t, t < L → pw_ans (P t) (eA (4 * t + p)) (lA (4 * t + p)))
    (hpost : post (nI (dw_cnt (fun t => ∃ f, P t f) L)) (nI L, lk, ff, fz, dn, av, sz, st, ct, sm, fo, ea, la, ne, nl, eA, lA)) :
    ∀ (n t : Nat), L < n + t → t ≤ L → wX_ends_17 post (nI p) (nI L) lk ff fz dn av sz st ct sm fo ea la ne nl eA lA n (nI (dw_cnt (fun t => ∃ f, P t f) t)) (nI t) := by
  intro n
  induction n with
  | zero => intro t h1 h2; omega
  | succ n ih =>
    intro t h1 h2
    rw [wX_ends_17]
    by_cases e : t = L
    · subst e
      exact br_t (nI_le (Nat.le_refl _) (by omega)) hpost
    · have c : (nI (4 * t + p)).toNatClampNeg = 4 * t + p := nI_clamp (by omega)
      have hn := sp_neg (hans t (by omega))
      have ih' := ih (t + 1) (by omega) (by omega)
      refine br_f (nI_ge (by omega) (by omega)) ?_
      rw [bw_c4, c]
      refine ⟨vp_in_nI (by omega) (by omega), br_c (fun z => ?_) (fun z => ?_)⟩
      · rw [dw_cnt0 (hn.mp z)] at ih'
        exact nm_r (Int32.add_zero _) (nm_r (nI_1 t) ih')
      · rw [dw_cnt1 (Classical.byContradiction (fun y => z (hn.mpr y)))] at ih'
        exact nm_r (nI_1 _) (nm_r (nI_1 t) ih')
theorem xw_ends1 {post : Int32 → SX → Prop} {p : Nat} (h : xw_R L Z T sz st ct u) (hp : p < 4)
    (hpost : ∀ u', xw_R L Z T sz st ct u' → post (nI (dw_cnt (fun t => ∃ f, dw_mt ct st T Z p f t) L)) u') : wpX_ends post u (nI p) := by
  obtain ⟨ln, lk, ff, fz, dn, av, sz', st', ct', sm, fo, ea, la, ne, nl, eA, lA⟩ := u
  have h' := h
  obtain ⟨D, hD, rfl, rfl, rfl, rfl, rfl, hok, hL, hsm, hlk, hA, hN⟩ := h
  unfold wpX_ends
  dsimp only
  refine xw_pt1 hp (br_f (by decide) (xw_goR h' (fun lk ff fz av sm fo ea la ne nl eA lA g1 g2 g3 g4 => ?_)))
  exact ⟨L + 1, xw_en17 hL hp (fun t ht => g3 t p ht hp) (hpost _ g4) (L + 1) 0 (by omega) (by omega)⟩
theorem xw_ends0 {post : Int32 → SX → Prop} {x : Int32} (hx : ∀ p, p < 4 → x ≠ nI p) (hpost : post 0 u) : wpX_ends post u x := by
  obtain ⟨ln, lk, ff, fz, dn, av, sz, st, ct, sm, fo, ea, la, ne, nl, eA, lA⟩ := u
  unfold wpX_ends
  dsimp only
  exact xw_pt0 hx (br_t rfl hpost)
/-! firstEnd -/
theorem xw_fe15 {post : Int32 → SX → Prop} {p : Nat} {P : Nat → Nat → Prop} (hL : L ≤ 60) (hp : p < 4) (hans : ∀ t, t < L → pw_ans (P t) (eA (4 * t + p)) (lA (4 * t + p)))
    (hpost : ∀ r, sp_first r (fun t => ∃ f, P t f) L → post r (nI L, lk, ff, fz, dn, av, sz, st, ct, sm, fo, ea, la, ne, nl, eA, lA)) :
    ∀ (n t : Nat), L < n + t → t ≤ L → (∀ t', t' < t → ¬ ∃ f, P t' f) → wX_firstEnd_15 post (nI p) (nI L) lk ff fz dn av sz st ct sm fo ea la ne nl eA lA n (nI t) := by
  intro n
  induction n with
  | zero => intro t h1 h2; omega
  | succ n ih =>
    intro t h1 h2 h
    rw [wX_firstEnd_15]
    by_cases e : t = L
    · subst e
      exact br_t (nI_le (Nat.le_refl _) (by omega)) (hpost _ (Or.inl ⟨rfl, h⟩))
    · have c : (nI (4 * t + p)).toNatClampNeg = 4 * t + p := nI_clamp (by omega)
      have hn := sp_neg (hans t (by omega))
      refine br_f (nI_ge (by omega) (by omega)) ?_
      rw [bw_c4, c]
      refine ⟨vp_in_nI (by omega) (by omega), br_c (fun z => nm_r (nI_1 t) (ih (t + 1) (by omega) (by omega) (fun t' ht' => ?_))) (fun z => hpost _ (Or.inr ⟨t, by omega, rfl, Classical.byContradiction (fun y => z (hn.mpr y)), h⟩))⟩
      by_cases q : t' = t
      · subst q; exact hn.mp z
      · exact h t' (by omega)
theorem xw_fe1 {post : Int32 → SX → Prop} {p : Nat} (h : xw_R L Z T sz st ct u) (hp : p < 4)
    (hpost : ∀ r u', sp_first r (fun t => ∃ f, dw_mt ct st T Z p f t) L → xw_R L Z T sz st ct u' → post r u') : wpX_firstEnd post u (nI p) := by
  obtain ⟨ln, lk, ff, fz, dn, av, sz', st', ct', sm, fo, ea, la, ne, nl, eA, lA⟩ := u
  have h' := h
  obtain ⟨D, hD, rfl, rfl, rfl, rfl, rfl, hok, hL, hsm, hlk, hA, hN⟩ := h
  unfold wpX_firstEnd
  dsimp only
  refine xw_pt1 hp (br_f (by decide) (xw_goR h' (fun lk ff fz av sm fo ea la ne nl eA lA g1 g2 g3 g4 => ?_)))
  exact ⟨L + 1, xw_fe15 hL hp (fun t ht => g3 t p ht hp) (fun r hr => hpost r _ hr g4) (L + 1) 0 (by omega) (by omega) (fun t ht => absurd ht (Nat.not_lt_zero t))⟩
theorem xw_fe0 {post : Int32 → SX → Prop} {x : Int32} (hx : ∀ p, p < 4 → x ≠ nI p) (hpost : post (-1) u) : wpX_firstEnd post u x := by
  obtain ⟨ln, lk, ff, fz, dn, av, sz, st, ct, sm, fo, ea, la, ne, nl, eA, lA⟩ := u
  unfold wpX_firstEnd
  dsimp only
  exact xw_pt0 hx (br_t rfl hpost)
/-! earliest, latest -/
theorem xw_early1 {post : Int32 → SX → Prop} {p t : Nat} (h : xw_R L Z T sz st ct u) (hp : p < 4) (ht : t < L)
    (hpost : ∀ r u', sp_lo r (fun f => dw_mt ct st T Z p f t) → xw_R L Z T sz st ct u' → post r u') : wpX_earliest post u (nI p) (nI t) := by
  obtain ⟨ln, lk, ff, fz, dn, av, sz', st', ct', sm, fo, ea, la, ne, nl, eA, lA⟩ := u
  have h' := h
  obtain ⟨D, hD, rfl, rfl, rfl, rfl, rfl, hok, hL, hsm, hlk, hA, hN⟩ := h
  unfold wpX_earliest
  dsimp only
  refine xw_pt1 hp (br_f (by decide) (xw_pl1 hL ht (br_f (by decide) (xw_goR h' (fun lk ff fz av sm fo ea la ne nl eA lA g1 g2 g3 g4 => ?_)))))
  have c : (nI (4 * t + p)).toNatClampNeg = 4 * t + p := nI_clamp (by omega)
  dsimp only
  rw [bw_c4, c]
  exact ⟨vp_in_nI (by omega) (by omega), hpost _ _ (sp_ans (g3 t p ht hp)).1 g4⟩
theorem xw_early0 {post : Int32 → SX → Prop} {x y : Int32} (hx : ∀ p, p < 4 → x ≠ nI p) (hpost : post (-1) u) : wpX_earliest post u x y := by
  obtain ⟨ln, lk, ff, fz, dn, av, sz, st, ct, sm, fo, ea, la, ne, nl, eA, lA⟩ := u
  unfold wpX_earliest
  dsimp only
  exact xw_pt0 hx (br_t rfl hpost)
theorem xw_early2 {post : Int32 → SX → Prop} {p : Nat} {y : Int32} (h : xw_R L Z T sz st ct u) (hp : p < 4) (hy : ∀ t, t < L → y ≠ nI t) (hpost : post (-1) u) : wpX_earliest post u (nI p) y := by
  obtain ⟨ln, lk, ff, fz, dn, av, sz', st', ct', sm, fo, ea, la, ne, nl, eA, lA⟩ := u
  obtain ⟨D, hD, rfl, rfl, rfl, rfl, rfl, hok, hL, hsm, hlk, hA, hN⟩ := h
  unfold wpX_earliest
  dsimp only
  exact xw_pt1 hp (br_f (by decide) (xw_pl0 hL hy (br_t rfl hpost)))
theorem xw_late1 {post : Int32 → SX → Prop} {p t : Nat} (h : xw_R L Z T sz st ct u) (hp : p < 4) (ht : t < L)
    (hpost : ∀ r u', sp_hi r (fun f => dw_mt ct st T Z p f t) → xw_R L Z T sz st ct u' → post r u') : wpX_latest post u (nI p) (nI t) := by
  obtain ⟨ln, lk, ff, fz, dn, av, sz', st', ct', sm, fo, ea, la, ne, nl, eA, lA⟩ := u
  have h' := h
  obtain ⟨D, hD, rfl, rfl, rfl, rfl, rfl, hok, hL, hsm, hlk, hA, hN⟩ := h
  unfold wpX_latest
  dsimp only
  refine xw_pt1 hp (br_f (by decide) (xw_pl1 hL ht (br_f (by decide) (xw_goR h' (fun lk ff fz av sm fo ea la ne nl eA lA g1 g2 g3 g4 => ?_)))))
  have c : (nI (4 * t + p)).toNatClampNeg = 4 * t + p := nI_clamp (by omega)
  dsimp only
  rw [bw_c4, c]
  exact ⟨vp_in_nI (by omega) (by omega), hpost _ _ (sp_ans (g3 t p ht hp)).2 g4⟩
theorem xw_late0 {post : Int32 → SX → Prop} {x y : Int32} (hx : ∀ p, p < 4 → x ≠ nI p) (hpost : post (-1) u) : wpX_latest post u x y := by
  obtain ⟨ln, lk, ff, fz, dn, av, sz, st, ct, sm, fo, ea, la, ne, nl, eA, lA⟩ := u
  unfold wpX_latest
  dsimp only
  exact xw_pt0 hx (br_t rfl hpost)
theorem xw_late2 {post : Int32 → SX → Prop} {p : Nat} {y : Int32} (h : xw_R L Z T sz st ct u) (hp : p < 4) (hy : ∀ t, t < L → y ≠ nI t) (hpost : post (-1) u) : wpX_latest post u (nI p) y := by
  obtain ⟨ln, lk, ff, fz, dn, av, sz', st', ct', sm, fo, ea, la, ne, nl, eA, lA⟩ := u
  obtain ⟨D, hD, rfl, rfl, rfl, rfl, rfl, hok, hL, hsm, hlk, hA, hN⟩ := h
  unfold wpX_latest
  dsimp only
  exact xw_pt1 hp (br_f (by decide) (xw_pl0 hL hy (br_t rfl hpost)))
end XR
end
section
/-! X: the other answers -/
section XT
variable {ln lk ff fz dn av : Int32} {sz st ct sm fo ea la ne nl eA lA : Nat → Int32} {Z T : Nat → Nat} {L : Nat} {u : SX}
theorem pw_pat (x : Int32) (n : Nat) : (∃ p, p < n ∧ x = nI p) ∨ (∀ p, p < n → x ≠ nI p) := by
  by_cases h : ∃ p, p < n ∧ x = nI p
  · exact Or.inl h
  · exact Or.inr (fun p hp e => h ⟨p, hp, e⟩)
/-! longest -/
theorem xw_lg4 {post : Int32 → SX → Prop} {p : Nat} (hp : p < 4)
    (hpost : ∀ b u', sp_mx (fun f t => t < L ∧ dw_mt ct st T Z p f t) b → xw_R L Z T sz st ct u' → post (nI b) u') :
    ∀ (n t b : Nat) (ln lk ff fz dn av : Int32) (sz' st' ct' sm fo ea la ne nl eA lA : Nat → Int32), L < n + t → t ≤ L →
    xw_R L Z T sz st ct (ln, lk, ff, fz, dn, av, sz', st', ct', sm, fo, ea, la, ne, nl, eA, lA) → sp_mx (fun f t' => t' < t ∧ dw_mt ct st T Z p f t') b →
    wX_longest_4 post (nI p) n (nI b) (nI t) ln lk ff fz dn av sz' st' ct' sm fo ea la ne nl eA lA := by
  intro n
  induction n with
  | zero => intro t b ln lk ff fz dn av sz' st' ct' sm fo ea la ne nl eA lA h1 h2; omega
  | succ n ih =>
    intro t b ln lk ff fz dn av sz' st' ct' sm fo ea la ne nl eA lA h1 h2 h hm
    have hL : L ≤ 60 := by
      obtain ⟨D, _, _, _, _, _, _, _, hL, _⟩ := h
      exact hL
    have e1 : ln = nI L := by
      obtain ⟨D, _, e1, _⟩ := h
      exact e1
    subst e1
    rw [wX_longest_4]
    by_cases e : t = L
    · subst e
      exact br_t (nI_le (Nat.le_refl _) (by omega)) (hpost b _ hm h)
    · have htL : t < L := by omega
      refine br_f (nI_ge htL (by omega)) (xw_early1 h hp htL (fun r u' hr hu => ?_))
      obtain ⟨ln2, lk2, ff2, fz2, dn2, av2, sz2, st2, ct2, sm2, fo2, ea2, la2, ne2, nl2, eA2, lA2⟩ := u'
      dsimp only
      rcases hr with ⟨rfl, hn⟩ | ⟨a, rfl, ha, hmin⟩
      · refine br_t (by decide) (nm_r (nI_1 t) (ih (t + 1) b _ _ _ _ _ _ _ _ _ _ _ _ _ _ _ _ _ (by omega) (by omega) hu (sp_mx_cg hm (fun f t' => ?_))))
        constructor
        · intro g
          obtain ⟨g1, g2⟩ := g
          by_cases q : t' = t
          · subst q; exact absurd g2 (hn f)
          · exact ⟨by omega, g2⟩
        · intro g
          exact ⟨by omega, g.2⟩
      · have hat : a ≤ t := ha.1
        have hS : ∀ f t', (t' < t + 1 ∧ dw_mt ct st T Z p f t') ↔ (t' < t ∧ dw_mt ct st T Z p f t') ∨ (t' = t ∧ dw_mt ct st T Z p f t') := by
          intro f t'
          constructor
          · intro g
            by_cases q : t' = t
            · exact Or.inr ⟨q, g.2⟩
            · exact Or.inl ⟨by omega, g.2⟩
          · intro g
            rcases g with g | g
            · exact ⟨by omega, g.2⟩
            · exact ⟨by omega, g.2⟩
        have hN : ∀ f t', (t' = t ∧ dw_mt ct st T Z p f t') → t' + 1 - f ≤ t + 1 - a := by
          intro f t' g
          obtain ⟨g1, g2⟩ := g
          subst g1
          have := hmin f g2
          omega
        have hex : ∃ f t', (t' = t ∧ dw_mt ct st T Z p f t') ∧ t + 1 - a = t' + 1 - f := ⟨a, t, ⟨rfl, ha⟩, rfl⟩
        refine br_f (nI_pos (by omega)) ?_
        rw [nI_1 t, pk_sub (show a ≤ t + 1 by omega)]
        have hb := hm.1
        refine pk_le (t + 1 - a) b (fun z => nm_e ?_) (fun z => nm_e (nm_e ?_))
        · exact ih (t + 1) b _ _ _ _ _ _ _ _ _ _ _ _ _ _ _ _ _ (by omega) (by omega) hu (sp_mx_le hm hS hN z)
        · exact ih (t + 1) (t + 1 - a) _ _ _ _ _ _ _ _ _ _ _ _ _ _ _ _ _ (by omega) (by omega) hu (sp_mx_gt hm hS hN z (by omega) hex)
theorem xw_long1 {post : Int32 → SX → Prop} {p : Nat} (h : xw_R L Z T sz st ct u) (hp : p < 4)
    (hpost : ∀ b u', sp_mx (fun f t => t < L ∧ dw_mt ct st T Z p f t) b → xw_R L Z T sz st ct u' → post (nI b) u') : wpX_longest post u (nI p) := by
  obtain ⟨ln, lk, ff, fz, dn, av, sz', st', ct', sm, fo, ea, la, ne, nl, eA, lA⟩ := u
  unfold wpX_longest
  dsimp only
  exact ⟨L + 1, xw_lg4 hp hpost (L + 1) 0 0 _ _ _ _ _ _ _ _ _ _ _ _ _ _ _ _ _ (by omega) (by omega) h ⟨by omega, Or.inl rfl, fun f t s => absurd s.1 (Nat.not_lt_zero t)⟩⟩
theorem xw_lg0 {post : Int32 → SX → Prop} {x : Int32} (hL : L ≤ 60) (hx : ∀ p, p < 4 → x ≠ nI p) (hpost : post 0 (nI L, lk, ff, fz, dn, av, sz, st, ct, sm, fo, ea, la, ne, nl, eA, lA)) :
    ∀ (n t : Nat), L < n + t → t ≤ L → wX_longest_4 post x n 0 (nI t) (nI L) lk ff fz dn av sz st ct sm fo ea la ne nl eA lA := by
  intro n
  induction n with
  | zero => intro t h1 h2; omega
  | succ n ih =>
    intro t h1 h2
    rw [wX_longest_4]
    by_cases e : t = L
    · subst e
      exact br_t (nI_le (Nat.le_refl _) (by omega)) hpost
    · exact br_f (nI_ge (by omega) (by omega)) (xw_early0 hx (br_t (by decide) (nm_r (nI_1 t) (ih (t + 1) (by omega) (by omega)))))
theorem xw_long0 {post : Int32 → SX → Prop} {x : Int32} (h : xw_R L Z T sz st ct u) (hx : ∀ p, p < 4 → x ≠ nI p) (hpost : post 0 u) : wpX_longest post u x := by
  obtain ⟨ln, lk, ff, fz, dn, av, sz', st', ct', sm, fo, ea, la, ne, nl, eA, lA⟩ := u
  obtain ⟨D, hD, rfl, rfl, rfl, rfl, rfl, hok, hL, hsm, hlk, hA, hN⟩ := h
  unfold wpX_longest
  dsimp only
  exact ⟨L + 1, xw_lg0 hL hx hpost (L + 1) 0 (by omega) (by omega)⟩
/-! completing -/
theorem xw_cpk {p s : Nat} {nx : Int32} (hok : dw_ok Z sz ct) (hp : p < 4) (hlk : xs_lk Z ct ff fz fo) (hA : xs_A ct st T Z L av ea la) (hon : xs_on Z st ff av fo s nx) :
    ((nx &&& fz) &&& ((63 : Int32) <<< (nI (6 * p) &&& 31))) = 0 ↔ ¬ ∃ f, dw_mt ct st (dw_T T L s) Z p f L := by
  have hb := xw_onA hok hlk hA hon (T' := dw_T T L s) (fun j hj => (dw_Tn hj).symm) dw_Ts
  constructor
  · intro h0 g
    obtain ⟨f, hf⟩ := g
    obtain ⟨k, hk, ha, em⟩ := dw_mt_iff.mp hf
    have hz6 := (hok.1 p hp).2
    have hk6 : k < 6 := by omega
    have w : bt ((nx &&& fz) &&& ((63 : Int32) <<< (nI (6 * p) &&& 31))) (6 * p + k) = true :=
      bw_and.mpr ⟨bw_and.mpr ⟨(hb p k hp hk6).mpr ⟨hk, f, ha⟩, (hlk.2.1 p k hp hk6).mpr ⟨Or.inl hp, hk, em⟩⟩, (bw_own (by omega) (by omega)).mpr ⟨by omega, by omega⟩⟩
    rw [h0] at w
    exact bw_0 w
  · intro h
    apply b_ext
    intro i hi
    rw [b_0]
    refine Bool.eq_false_iff.mpr (fun g => h ?_)
    obtain ⟨g1, g3⟩ := bw_and.mp g
    obtain ⟨g1, g2⟩ := bw_and.mp g1
    obtain ⟨w1, w2⟩ := (bw_own (by omega) hi).mp g3
    obtain ⟨k, rfl⟩ : ∃ k, i = 6 * p + k := ⟨i - 6 * p, by omega⟩
    have hk6 : k < 6 := by omega
    obtain ⟨hk, f, ha⟩ := (hb p k hp hk6).mp g1
    exact ⟨f, dw_mt_iff.mpr ⟨k, hk, ha, ((hlk.2.1 p k hp hk6).mp g2).2.2⟩⟩
theorem xw_cp26 {post : Int32 → SX → Prop} {p : Nat} (hok : dw_ok Z sz ct) (hp : p < 4) (hlk : xs_lk Z ct ff fz fo) (hA : xs_A ct st T Z L av ea la)
    (hpost : ∀ r, sp_set r (fun s => ∃ f, dw_mt ct st (dw_T T L s) Z p f L) → post r (ln, lk, ff, fz, dn, av, sz, st, ct, sm, fo, ea, la, ne, nl, eA, lA)) :
    ∀ (n s : Nat) (x : Int32), 4 < n + s → s ≤ 4 → (∀ i, i < 32 → (bt x i = true ↔ i < s ∧ ∃ f, dw_mt ct st (dw_T T L i) Z p f L)) →
    wX_completing_26 post ((63 : Int32) <<< (nI (6 * p) &&& 31)) ln lk ff fz dn av sz st ct sm fo ea la ne nl eA lA n x (nI s) := by
  intro n
  induction n with
  | zero => intro s x h1 h2; omega
  | succ n ih =>
    intro s x h1 h2 h
    rw [wX_completing_26]
    by_cases e : s = 4
    · subst e
      exact br_t (nI_le (a := 4) (Nat.le_refl _) (by omega)) (hpost x h)
    · refine br_f (nI_ge (b := 4) (by omega) (by omega)) (xw_on hok (by omega) (fun nx hon => ?_))
      have hn := xw_cpk hok hp hlk hA hon
      refine br_c (fun z => nm_e (nm_r (nI_1 s) (ih (s + 1) _ (by omega) (by omega) ?_))) (fun z => nm_e (nm_r (nI_1 s) (ih (s + 1) _ (by omega) (by omega) ?_)))
      · intro i hi
        rw [bw_or, h i hi]
        constructor
        · intro g
          rcases g with g | g
          · exact ⟨by omega, g.2⟩
          · exact absurd g bw_0
        · intro g
          by_cases q : i = s
          · subst q; exact absurd g.2 (hn.mp z)
          · exact Or.inl ⟨by omega, g.2⟩
      · intro i hi
        rw [bw_or, h i hi, bw_one (by omega) hi]
        constructor
        · intro g
          rcases g with g | g
          · exact ⟨by omega, g.2⟩
          · subst g
            exact ⟨by omega, Classical.byContradiction (fun y => z (hn.mpr y))⟩
        · intro g
          by_cases q : i = s
          · exact Or.inr q
          · exact Or.inl ⟨by omega, g.2⟩
theorem xw_comp1 {post : Int32 → SX → Prop} {p : Nat} (h : xw_R L Z T sz st ct u) (hp : p < 4)
    (hpost : ∀ r u', sp_set r (fun s => ∃ f, dw_mt ct st (dw_T T L s) Z p f L) → xw_R L Z T sz st ct u' → post r u') : wpX_completing post u (nI p) := by
  obtain ⟨ln, lk, ff, fz, dn, av, sz', st', ct', sm, fo, ea, la, ne, nl, eA, lA⟩ := u
  have h' := h
  obtain ⟨D, hD, rfl, rfl, rfl, rfl, rfl, hok, hL, hsm, hlk, hA, hN⟩ := h
  unfold wpX_completing
  dsimp only
  refine xw_pt1 hp (br_f (by decide) (xw_goR h' (fun lk ff fz av sm fo ea la ne nl eA lA g1 g2 g3 g4 => ?_)))
  dsimp only
  rw [bw_p6]
  exact nm_e ⟨5, xw_cp26 hok hp g1 g2 (fun r hr => hpost r _ hr g4) 5 0 0 (by omega) (by omega) (fun i _ => ⟨fun y => absurd y bw_0, fun y => absurd y.1 (Nat.not_lt_zero i)⟩)⟩
theorem xw_comp0 {post : Int32 → SX → Prop} {x : Int32} (hx : ∀ p, p < 4 → x ≠ nI p) (hpost : post 0 u) : wpX_completing post u x := by
  obtain ⟨ln, lk, ff, fz, dn, av, sz, st, ct, sm, fo, ea, la, ne, nl, eA, lA⟩ := u
  unfold wpX_completing
  dsimp only
  exact xw_pt0 hx (br_t rfl hpost)
/-! emptyFits -/
theorem xw_ef4 {post : Int32 → Prop} (hok : dw_ok Z sz ct) (hpost : ∀ r, sp_set r (fun p => pw_em (dw_E ct p) 0 (Z p)) → post r) :
    ∀ (n p : Nat) (x : Int32), 4 < n + p → p ≤ 4 → (∀ i, i < 32 → (bt x i = true ↔ i < p ∧ pw_em (dw_E ct i) 0 (Z i))) → wX_emptyFits_4 post ln lk ff fz dn av sz st ct sm fo ea la ne nl eA lA n x (nI p) := by
  intro n
  induction n with
  | zero => intro p x h1 h2; omega
  | succ n ih =>
    intro p x h1 h2 h
    rw [wX_emptyFits_4]
    by_cases e : p = 4
    · subst e
      exact br_t (nI_le (a := 4) (Nat.le_refl _) (by omega)) (hpost x h)
    · obtain ⟨hz, hz6⟩ := hok.1 p (by omega)
      refine br_f (nI_ge (b := 4) (by omega) (by omega)) (xw_emp (k := 0) (by omega) hz hz6 (by omega) (fun g => br_f (by decide) (nm_e (nm_r (nI_1 p) (ih (p + 1) _ (by omega) (by omega) ?_)))) (fun g => br_t rfl (nm_e (nm_r (nI_1 p) (ih (p + 1) _ (by omega) (by omega) ?_)))))
      · intro i hi
        rw [bw_or, h i hi, bw_one (by omega) hi]
        constructor
        · intro y
          rcases y with y | y
          · exact ⟨by omega, y.2⟩
          · subst y
            exact ⟨by omega, g⟩
        · intro y
          by_cases q : i = p
          · exact Or.inr q
          · exact Or.inl ⟨by omega, y.2⟩
      · intro i hi
        rw [bw_or, h i hi]
        constructor
        · intro y
          rcases y with y | y
          · exact ⟨by omega, y.2⟩
          · exact absurd y bw_0
        · intro y
          by_cases q : i = p
          · subst q; exact absurd y.2 g
          · exact Or.inl ⟨by omega, y.2⟩
theorem xw_eft {post : Int32 → Prop} (h : xw_R L Z T sz st ct u) (hpost : ∀ r, sp_set r (fun p => pw_em (dw_E ct p) 0 (Z p)) → post r) : wpX_emptyFits post u := by
  obtain ⟨ln, lk, ff, fz, dn, av, sz', st', ct', sm, fo, ea, la, ne, nl, eA, lA⟩ := u
  obtain ⟨D, hD, rfl, rfl, rfl, rfl, rfl, hok, hL, hsm, hlk, hA, hN⟩ := h
  unfold wpX_emptyFits
  dsimp only
  exact ⟨5, xw_ef4 hok hpost 5 0 0 (by omega) (by omega) (fun i _ => ⟨fun y => absurd y bw_0, fun y => absurd y.1 (Nat.not_lt_zero i)⟩)⟩
/-! push -/
theorem xs_A_cg {T' : Nat → Nat} {d : Nat} (hT : ∀ j, j < d → T j = T' j) (h : xs_A ct st T Z d av ea la) : xs_A ct st T' Z d av ea la := by
  intro p k hp hk
  have e : (fun f => dw_act ct st T p f k d) = (fun f => dw_act ct st T' p f k d) := pw_cg (fun f => dw_act_cg hT)
  obtain ⟨h1, h2⟩ := h p k hp hk
  rw [e] at h2
  refine ⟨h1.trans ⟨fun g => ⟨g.1, g.2.elim (fun f hf => ⟨f, (dw_act_cg hT).mp hf⟩)⟩, fun g => ⟨g.1, g.2.elim (fun f hf => ⟨f, (dw_act_cg hT).mpr hf⟩)⟩⟩, h2⟩
theorem xs_N_cg {T' : Nat → Nat} {d : Nat} (hT : ∀ j, j < d → T j = T' j) (h : xs_N ct st T Z d eA lA) : xs_N ct st T' Z d eA lA := by
  intro t p ht hp
  refine pw_ans_cg (fun f => ?_) (h t p ht hp)
  exact ⟨fun g => ⟨g.1, (dw_fit_cg (fun j hj => hT j (by omega))).mp g.2⟩, fun g => ⟨g.1, (dw_fit_cg (fun j hj => hT j (by omega))).mpr g.2⟩⟩
theorem dw_str {a : Nat → Int32} {s : Nat} (hs : s < 4) (h : ∀ j, j < L → a j = nI (T j) ∧ T j < 4) : ∀ j, j < L + 1 → upd a L (nI s) j = nI (dw_T T L s j) ∧ dw_T T L s j < 4 := by
  intro j hj
  by_cases q : j = L
  · subst q
    rw [pk_us, dw_Ts]
    exact ⟨rfl, hs⟩
  · rw [pk_un q, dw_Tn (by omega)]
    exact h j (by omega)
theorem xw_push1 {post : Int32 → SX → Prop} {s : Nat} (h : xw_R L Z T sz st ct u) (hL : L < 60) (hs : s < 4)
    (hpost : ∀ r u', sp_set r (fun p => ∃ f, dw_mt ct st (dw_T T L s) Z p f L) → xw_R (L + 1) Z (dw_T T L s) sz st ct u' → post r u') : wpX_push post u (nI s) := by
  obtain ⟨ln, lk, ff, fz, dn, av, sz', st', ct', sm, fo, ea, la, ne, nl, eA, lA⟩ := u
  obtain ⟨D, hD, rfl, rfl, rfl, rfl, rfl, hok, _, hsm, hlk, hA, hN⟩ := h
  have c : (nI L).toNatClampNeg = L := nI_clamp (by omega)
  unfold wpX_push
  dsimp only
  rw [c, bw_nbb (by omega : s < 128)]
  refine br_f (nI_pos (by omega)) (br_t (nI_le (b := 3) (by omega) (by omega)) (br_t (nI_lt (b := 60) (by omega) (by omega)) ⟨vp_in_nI hL (by omega), nm_e (nm_r (nI_1 L) ?_)⟩))
  rw [nI_pred L]
  refine xw_endA1 (L := L + 1) (Z := Z) (T := dw_T T L s) (sz := sz') (st := st') (ct := ct') ⟨D, by omega, rfl, rfl, rfl, rfl, rfl, hok, by omega, dw_str hs hsm, hlk, xs_A_cg (fun j hj => (dw_Tn (by omega)).symm) hA, xs_N_cg (fun j hj => (dw_Tn (by omega)).symm) hN⟩ (by omega) (fun r u' hr hu => ?_)
  obtain ⟨ln2, lk2, ff2, fz2, dn2, av2, sz2, st2, ct2, sm2, fo2, ea2, la2, ne2, nl2, eA2, lA2⟩ := u'
  exact hpost r _ hr hu
theorem xw_push0 {post : Int32 → SX → Prop} {x : Int32} (hx : ∀ s, s < 4 → x ≠ nI s) (hpost : post (-1) u) : wpX_push post u x := by
  obtain ⟨ln, lk, ff, fz, dn, av, sz, st, ct, sm, fo, ea, la, ne, nl, eA, lA⟩ := u
  unfold wpX_push
  dsimp only
  refine br_c (fun _ => hpost) (fun z => br_f (fun y => ?_) hpost)
  obtain ⟨j, hj, e⟩ := nI_of2 (M := 3) (n := 3) (by decide) z y
  exact hx j (by omega) e
theorem xw_push2 {post : Int32 → SX → Prop} {s : Nat} (h : xw_R L Z T sz st ct u) (hL : ¬ L < 60) (hs : s < 4) (hpost : post (-2) u) : wpX_push post u (nI s) := by
  obtain ⟨ln, lk, ff, fz, dn, av, sz', st', ct', sm, fo, ea, la, ne, nl, eA, lA⟩ := u
  obtain ⟨D, hD, rfl, rfl, rfl, rfl, rfl, hok, hL6, hsm, hlk, hA, hN⟩ := h
  unfold wpX_push
  dsimp only
  exact br_f (nI_pos (by omega)) (br_t (nI_le (b := 3) (by omega) (by omega)) (br_f (nI_nlt (b := 60) (by omega) (by omega)) hpost))
/-! patterns -/
theorem xw_new (hok : dw_ok Z sz ct) (hL : L ≤ 60) (hsm : ∀ j, j < L → sm j = nI (T j) ∧ T j < 4) : xw_R L Z T sz st ct (nI L, 0, ff, fz, 0, 0, sz, st, ct, sm, fo, ea, la, ne, nl, eA, lA) := by
  refine ⟨0, by omega, rfl, rfl, rfl, rfl, rfl, hok, hL, hsm, Or.inl rfl, ?_, ?_⟩
  · intro p k _ _
    exact ⟨⟨fun g => absurd g bw_0, fun g => g.2.elim (fun f hf => absurd hf pw_act_0)⟩, fun g => absurd g bw_0⟩
  · intro t p ht
    exact absurd ht (Nat.not_lt_zero t)
theorem xw_pc {post : SX → Prop} (h : post (ln, 0, ff, fz, 0, 0, sz, st, ct, sm, fo, ea, la, ne, nl, eA, lA)) : wpX_patternsChanged post (ln, lk, ff, fz, dn, av, sz, st, ct, sm, fo, ea, la, ne, nl, eA, lA) := by
  unfold wpX_patternsChanged
  dsimp only
  unfold wpX_startOver
  exact h
def dw_bad (x y z : Int32) : Prop := (∀ p, p < 4 → x ≠ nI p) ∨ y < 1 ∨ 15 < y ∨ z < 0 ∨ ¬ z ≤ 3
theorem xw_item0 {post : Int32 → SX → Prop} {x y z : Int32} (hb : dw_bad x y z) (h : post (-1) u) : wpX_item post u x y z := by
  obtain ⟨ln, lk, ff, fz, dn, av, sz, st, ct, sm, fo, ea, la, ne, nl, eA, lA⟩ := u
  unfold wpX_item
  dsimp only
  rcases pw_pat x 4 with ⟨p, hp, rfl⟩ | hx
  · refine xw_pt1 hp (br_f (by decide) (br_c (fun _ => h) (fun n1 => br_c (fun _ => h) (fun n2 => br_c (fun _ => h) (fun n3 => br_f (fun n4 => ?_) h)))))
    rcases hb with hb | hb | hb | hb | hb
    · exact hb p hp rfl
    · exact n1 hb
    · exact n2 hb
    · exact n3 hb
    · exact hb n4
  · exact xw_pt0 hx (br_t rfl h)
/-- good arguments of item -/
theorem dw_good {y z : Int32} (n1 : ¬ y < 1) (n2 : ¬ 15 < y) (n3 : ¬ z < 0) (n4 : z ≤ 3) : (∃ j, j ≤ 15 ∧ y = nI j) ∧ ∃ k, k ≤ 3 ∧ z = nI k := by
  have n0 : ¬ y < 0 := fun h => n1 (Int32.lt_trans h (by decide))
  exact ⟨nI_of2 (M := 15) (n := 15) (by decide) n0 (Int32.not_lt.mp n2), nI_of2 (M := 3) (n := 3) (by decide) n3 n4⟩
theorem xw_item2 {post : Int32 → SX → Prop} {p : Nat} {y z : Int32} (h : xw_R L Z T sz st ct u) (hp : p < 4) (n1 : ¬ y < 1) (n2 : ¬ 15 < y) (n3 : ¬ z < 0) (n4 : z ≤ 3) (hf : ¬ Z p < 6)
    (hpost : post (-2) u) : wpX_item post u (nI p) y z := by
  obtain ⟨ln, lk, ff, fz, dn, av, sz', st', ct', sm, fo, ea, la, ne, nl, eA, lA⟩ := u
  obtain ⟨D, hD, rfl, rfl, rfl, rfl, rfl, hok, hL6, hsm, hlk, hA, hN⟩ := h
  have c : (nI p).toNatClampNeg = p := nI_clamp (by omega)
  obtain ⟨hz, hz6⟩ := hok.1 p hp
  unfold wpX_item
  dsimp only
  rw [c, hz]
  exact xw_pt1 hp (br_f (by decide) (br_f n1 (br_f n2 (br_f n3 (br_t n4 ⟨vp_in_nI hp (by omega), br_f (nI_nlt (b := 6) (by omega) (by omega)) hpost⟩)))))
def dw_up (Z : Nat → Nat) (p n : Nat) : Nat → Nat := fun i => if i = p then n else Z i
theorem dw_ups {Z : Nat → Nat} {p n : Nat} : dw_up Z p n p = n := if_pos rfl
theorem dw_upn {Z : Nat → Nat} {p n i : Nat} (h : i ≠ p) : dw_up Z p n i = Z i := if_neg h
theorem dw_ok_up {p n : Nat} (hok : dw_ok Z sz ct) (hn : n ≤ 6) : dw_ok (dw_up Z p n) (upd sz p (nI n)) ct := by
  refine ⟨fun i hi => ?_, hok.2⟩
  by_cases q : i = p
  · subst q
    rw [pk_us, dw_ups]
    exact ⟨rfl, hn⟩
  · rw [pk_un q, dw_upn q]
    exact hok.1 i hi
theorem dw_ok_ct {i k : Nat} (hok : dw_ok Z sz ct) (hk : k ≤ 3) : dw_ok Z sz (upd ct i (nI k)) := by
  refine ⟨hok.1, fun j hj => ?_⟩
  by_cases q : j = i
  · subst q
    rw [pk_us]
    have : k = 0 ∨ k = 1 ∨ k = 2 ∨ k = 3 := by omega
    rcases this with rfl | rfl | rfl | rfl
    · exact Or.inl rfl
    · exact Or.inr (Or.inl rfl)
    · exact Or.inr (Or.inr (Or.inl rfl))
    · exact Or.inr (Or.inr (Or.inr rfl))
  · rw [pk_un q]
    exact hok.2 j hj
theorem xw_item1 {post : Int32 → SX → Prop} {p : Nat} {y z : Int32} (h : xw_R L Z T sz st ct u) (hp : p < 4) (n1 : ¬ y < 1) (n2 : ¬ 15 < y) (n3 : ¬ z < 0) (n4 : z ≤ 3) (hf : Z p < 6)
    (hpost : ∀ u', xw_R L (dw_up Z p (Z p + 1)) T (upd sz p (nI (Z p + 1))) (upd st (6 * p + Z p) y) (upd ct (6 * p + Z p) z) u' → post (nI (Z p + 1)) u') : wpX_item post u (nI p) y z := by
  obtain ⟨ln, lk, ff, fz, dn, av, sz', st', ct', sm, fo, ea, la, ne, nl, eA, lA⟩ := u
  obtain ⟨D, hD, rfl, rfl, rfl, rfl, rfl, hok, hL6, hsm, hlk, hA, hN⟩ := h
  have c : (nI p).toNatClampNeg = p := nI_clamp (by omega)
  have c2 : (nI (6 * p + Z p)).toNatClampNeg = 6 * p + Z p := nI_clamp (by omega)
  have v : vp_in (nI p) 4 := vp_in_nI hp (by omega)
  have v2 : vp_in (nI (6 * p + Z p)) 24 := vp_in_nI (by omega) (by omega)
  obtain ⟨hz, hz6⟩ := hok.1 p hp
  obtain ⟨⟨j, hj, ej⟩, ⟨k, hk, ek⟩⟩ := dw_good n1 n2 n3 n4
  have ey : vp_nar .byte y.toInt8.toInt32 = y := by rw [ej]; exact bw_nbb (by omega)
  have ez : vp_nar .byte z.toInt8.toInt32 = z := by rw [ek]; exact bw_nbb (by omega)
  unfold wpX_item
  dsimp only
  rw [c, hz, ey, ez, nI_1 (Z p), bw_nbb (by omega : Z p + 1 < 128)]
  refine xw_pt1 hp (br_f (by decide) (br_f n1 (br_f n2 (br_f n3 (br_t n4 ⟨v, br_t (nI_lt (b := 6) hf (by omega)) ⟨v, nm_r (bw_c6 p (Z p)) ?_⟩⟩)))))
  rw [c2]
  refine ⟨v2, nm_e ⟨v2, nm_e ⟨v, v, nm_e (xw_pc ⟨v, ?_⟩)⟩⟩⟩
  dsimp only
  rw [pk_us]
  have hok' : dw_ok (dw_up Z p (Z p + 1)) (upd sz' p (nI (Z p + 1))) (upd ct' (6 * p + Z p) z) := by
    rw [ek]
    exact dw_ok_ct (dw_ok_up hok (by omega)) hk
  exact hpost _ (xw_new hok' hL6 hsm)
theorem xw_drop0 {post : Int32 → SX → Prop} {x : Int32} (hx : ∀ p, p < 4 → x ≠ nI p) (hpost : post (-1) u) : wpX_drop post u x := by
  obtain ⟨ln, lk, ff, fz, dn, av, sz, st, ct, sm, fo, ea, la, ne, nl, eA, lA⟩ := u
  unfold wpX_drop
  dsimp only
  exact xw_pt0 hx (br_t rfl hpost)
theorem xw_drop2 {post : Int32 → SX → Prop} {p : Nat} (h : xw_R L Z T sz st ct u) (hp : p < 4) (hf : Z p = 0) (hpost : post (-1) u) : wpX_drop post u (nI p) := by
  obtain ⟨ln, lk, ff, fz, dn, av, sz', st', ct', sm, fo, ea, la, ne, nl, eA, lA⟩ := u
  obtain ⟨D, hD, rfl, rfl, rfl, rfl, rfl, hok, hL6, hsm, hlk, hA, hN⟩ := h
  have c : (nI p).toNatClampNeg = p := nI_clamp (by omega)
  obtain ⟨hz, hz6⟩ := hok.1 p hp
  unfold wpX_drop
  dsimp only
  rw [c, hz, hf]
  exact xw_pt1 hp (br_f (by decide) ⟨vp_in_nI hp (by omega), br_t rfl hpost⟩)
theorem xw_drop1 {post : Int32 → SX → Prop} {p m : Nat} (h : xw_R L Z T sz st ct u) (hp : p < 4) (hf : Z p = m + 1)
    (hpost : ∀ u', xw_R L (dw_up Z p m) T (upd sz p (nI m)) st ct u' → post (nI m) u') : wpX_drop post u (nI p) := by
  obtain ⟨ln, lk, ff, fz, dn, av, sz', st', ct', sm, fo, ea, la, ne, nl, eA, lA⟩ := u
  obtain ⟨D, hD, rfl, rfl, rfl, rfl, rfl, hok, hL6, hsm, hlk, hA, hN⟩ := h
  have c : (nI p).toNatClampNeg = p := nI_clamp (by omega)
  have v : vp_in (nI p) 4 := vp_in_nI hp (by omega)
  obtain ⟨hz, hz6⟩ := hok.1 p hp
  unfold wpX_drop
  dsimp only
  rw [c, hz, hf, nI_pred m, bw_nbb (by omega : m < 128)]
  refine xw_pt1 hp (br_f (by decide) ⟨v, br_f (nI_ne0 (by omega) (by omega)) ⟨v, v, nm_e (xw_pc ⟨v, ?_⟩)⟩⟩)
  dsimp only
  rw [pk_us]
  exact hpost _ (xw_new (dw_ok_up hok (by omega)) hL6 hsm)
theorem xw_items1 {post : Int32 → Prop} {p : Nat} (h : xw_R L Z T sz st ct u) (hp : p < 4) (hpost : post (sz p)) : wpX_items post u (nI p) := by
  obtain ⟨ln, lk, ff, fz, dn, av, sz', st', ct', sm, fo, ea, la, ne, nl, eA, lA⟩ := u
  obtain ⟨D, hD, rfl, rfl, rfl, rfl, rfl, hok, hL6, hsm, hlk, hA, hN⟩ := h
  have c : (nI p).toNatClampNeg = p := nI_clamp (by omega)
  unfold wpX_items
  dsimp only
  rw [c]
  exact xw_pt1 hp (br_f (by decide) ⟨vp_in_nI hp (by omega), hpost⟩)
theorem xw_items0 {post : Int32 → Prop} {x : Int32} (hx : ∀ p, p < 4 → x ≠ nI p) (hpost : post (-1)) : wpX_items post u x := by
  obtain ⟨ln, lk, ff, fz, dn, av, sz, st, ct, sm, fo, ea, la, ne, nl, eA, lA⟩ := u
  unfold wpX_items
  dsimp only
  exact xw_pt0 hx (br_t rfl hpost)
theorem xw_reset {post : SX → Prop} (h : xw_R L Z T sz st ct u) (hpost : ∀ u', xw_R 0 Z T sz st ct u' → post u') : wpX_reset post u := by
  obtain ⟨ln, lk, ff, fz, dn, av, sz', st', ct', sm, fo, ea, la, ne, nl, eA, lA⟩ := u
  obtain ⟨D, hD, rfl, rfl, rfl, rfl, rfl, hok, hL6, hsm, hlk, hA, hN⟩ := h
  unfold wpX_reset
  dsimp only
  unfold wpX_startOver
  dsimp only
  refine hpost _ ⟨0, by omega, rfl, rfl, rfl, rfl, rfl, hok, by omega, fun j hj => absurd hj (Nat.not_lt_zero j), hlk, ?_, ?_⟩
  · intro p k _ _
    exact ⟨⟨fun g => absurd g bw_0, fun g => g.2.elim (fun f hf => absurd hf pw_act_0)⟩, fun g => absurd g bw_0⟩
  · intro t p ht
    exact absurd ht (Nat.not_lt_zero t)
theorem xw_taken {post : Int32 → Prop} (h : xw_R L Z T sz st ct u) (hpost : post (nI L)) : wpX_taken post u := by
  obtain ⟨ln, lk, ff, fz, dn, av, sz', st', ct', sm, fo, ea, la, ne, nl, eA, lA⟩ := u
  obtain ⟨D, hD, rfl, rfl, rfl, rfl, rfl, hok, hL6, hsm, hlk, hA, hN⟩ := h
  exact hpost
end XT
end
section
/-! Y: the answers -/
section YA
variable {mn : Int32} {sz st ct ys yf ym : Nat → Int32} {Z T : Nat → Nat} {L : Nat} {v : SY}
def yw_R (L : Nat) (Z T : Nat → Nat) (sz st ct : Nat → Int32) (v : SY) : Prop := match v with
  | (mn, sz', st', ct', ys, yf, ym) => mn = nI L ∧ sz' = sz ∧ st' = st ∧ ct' = ct ∧ dw_ok Z sz ct ∧ L ≤ 60 ∧ (∀ j, j < L → ys j = nI (T j) ∧ T j < 4)
theorem yw_pt1 {post : Int32 → Prop} {p : Nat} (hp : p < 4) (h : post 1) : wpY_pattern post (mn, sz, st, ct, ys, yf, ym) (nI p) := by
  unfold wpY_pattern
  exact br_f (nI_pos (by omega)) (br_f (nI_nlt (a := 3) (b := p) (by omega) (by omega)) h)
theorem yw_pt0 {post : Int32 → Prop} {x : Int32} (hx : ∀ p, p < 4 → x ≠ nI p) (h : post 0) : wpY_pattern post (mn, sz, st, ct, ys, yf, ym) x := by
  unfold wpY_pattern
  refine br_c (fun _ => h) (fun z => br_c (fun _ => h) (fun y => ?_))
  obtain ⟨j, hj, rfl⟩ := nI_of z
  exact absurd rfl (hx j (Nat.lt_of_not_le (fun w => y (nI_lt (a := 3) (by omega) hj))))
/-! endingAt -/
theorem yw_en4 {post : Int32 → SY → Prop} {t : Nat} (hok : dw_ok Z sz ct) (hL : L ≤ 60) (hT : ∀ j, j < L → ys j = nI (T j) ∧ T j < 4) (ht : t < L)
    (hpost : ∀ r yf ym, sp_set r (fun p => ∃ f, dw_mt ct st T Z p f t) → post r (nI L, sz, st, ct, ys, yf, ym)) :
    ∀ (n p : Nat) (x : Int32) (yf ym : Nat → Int32), 4 < n + p → p ≤ 4 → (∀ i, i < 32 → (bt x i = true ↔ i < p ∧ ∃ f, dw_mt ct st T Z i f t)) → wY_endingAt_4 post (nI t) n x (nI p) (nI L) sz st ct ys yf ym := by
  intro n
  induction n with
  | zero => intro p x yf ym h1 h2; omega
  | succ n ih =>
    intro p x yf ym h1 h2 h
    rw [wY_endingAt_4]
    by_cases e : p = 4
    · subst e
      exact br_t (nI_le (a := 4) (Nat.le_refl _) (by omega)) (hpost x yf ym h)
    · refine br_f (nI_ge (b := 4) (by omega) (by omega)) (br_f (nI_pos (by omega)) (br_f (nI_ge ht (by omega)) ?_))
      rw [nI_1 t]
      refine yw_ea hok (by omega) (by omega) (fun j hj => hT j (by omega)) (fun g yf ym => br_f (by decide) (nm_e (nm_r (nI_1 p) (ih (p + 1) _ yf ym (by omega) (by omega) ?_)))) (fun g yf ym => br_t rfl (nm_r (nI_1 p) (ih (p + 1) _ yf ym (by omega) (by omega) ?_)))
      · intro i hi
        rw [bw_or, h i hi, bw_one (by omega) hi]
        constructor
        · intro y
          rcases y with y | y
          · exact ⟨by omega, y.2⟩
          · subst y
            exact ⟨by omega, g⟩
        · intro y
          by_cases q : i = p
          · exact Or.inr q
          · exact Or.inl ⟨by omega, y.2⟩
      · intro i hi
        rw [h i hi]
        constructor
        · intro y
          exact ⟨by omega, y.2⟩
        · intro y
          by_cases q : i = p
          · subst q; exact absurd y.2 g
          · exact ⟨by omega, y.2⟩
theorem yw_endA1 {post : Int32 → SY → Prop} {t : Nat} (h : yw_R L Z T sz st ct v) (ht : t < L)
    (hpost : ∀ r v', sp_set r (fun p => ∃ f, dw_mt ct st T Z p f t) → yw_R L Z T sz st ct v' → post r v') : wpY_endingAt post v (nI t) := by
  obtain ⟨mn, sz', st', ct', ys, yf, ym⟩ := v
  obtain ⟨rfl, rfl, rfl, rfl, hok, hL, hT⟩ := h
  unfold wpY_endingAt
  dsimp only
  exact ⟨5, yw_en4 hok hL hT ht (fun r yf ym hr => hpost r _ hr ⟨rfl, rfl, rfl, rfl, hok, hL, hT⟩) 5 0 0 yf ym (by omega) (by omega) (fun i _ => ⟨fun y => absurd y bw_0, fun y => absurd y.1 (Nat.not_lt_zero i)⟩)⟩
theorem yw_endA0 {post : Int32 → SY → Prop} {x : Int32} (h : yw_R L Z T sz st ct v) (hx : ∀ t, t < L → x ≠ nI t) (hpost : post 0 v) : wpY_endingAt post v x := by
  obtain ⟨mn, sz', st', ct', ys, yf, ym⟩ := v
  obtain ⟨rfl, rfl, rfl, rfl, hok, hL, hT⟩ := h
  unfold wpY_endingAt
  dsimp only
  refine ⟨1, ?_⟩
  rw [wY_endingAt_4]
  refine br_f (by decide) (br_c (fun _ => hpost) (fun z => br_t ?_ hpost))
  obtain ⟨j, hj, rfl⟩ := nI_of z
  exact nI_le (Nat.le_of_not_lt (fun w => hx j w rfl)) hj
/-! ends -/
theorem yw_e4 {post : Int32 → SY → Prop} {p : Nat} (hok : dw_ok Z sz ct) (hL : L ≤ 60) (hT : ∀ j, j < L → ys j = nI (T j) ∧ T j < 4) (hp : p < 4)
    (hpost : ∀ yf ym, post (nI (dw_cnt (fun t => ∃ f, dw_mt ct st T Z p f t) L)) (nI L, sz, st, ct, ys, yf, ym)) :
    ∀ (n t : Nat) (yf ym : Nat → Int32), L < n + t → t ≤ L → wY_ends_4 post (nI p) n (nI (dw_cnt (fun t => ∃ f, dw_mt ct st T Z p f t) t)) (nI t) (nI L) sz st ct ys yf ym := by
  intro n
  induction n with
  | zero => intro t yf ym h1 h2; omega
  | succ n ih =>
    intro t yf ym h1 h2
    rw [wY_ends_4]
    by_cases e : t = L
    · subst e
      exact br_t (nI_le (Nat.le_refl _) (by omega)) (hpost yf ym)
    · refine br_f (nI_ge (by omega) (by omega)) (yw_pt1 hp (br_f (by decide) ?_))
      rw [nI_1 t]
      refine yw_ea hok hp (by omega) (fun j hj => hT j (by omega)) (fun g yf ym => br_f (by decide) ?_) (fun g yf ym => br_t rfl ?_)
      · have ih' := ih (t + 1) yf ym (by omega) (by omega)
        rw [dw_cnt1 g] at ih'
        exact nm_r (nI_1 _) (nm_e ih')
      · have ih' := ih (t + 1) yf ym (by omega) (by omega)
        rw [dw_cnt0 g] at ih'
        exact nm_e ih'
theorem yw_ends1 {post : Int32 → SY → Prop} {p : Nat} (h : yw_R L Z T sz st ct v) (hp : p < 4)
    (hpost : ∀ v', yw_R L Z T sz st ct v' → post (nI (dw_cnt (fun t => ∃ f, dw_mt ct st T Z p f t) L)) v') : wpY_ends post v (nI p) := by
  obtain ⟨mn, sz', st', ct', ys, yf, ym⟩ := v
  obtain ⟨rfl, rfl, rfl, rfl, hok, hL, hT⟩ := h
  unfold wpY_ends
  dsimp only
  exact ⟨L + 1, yw_e4 hok hL hT hp (fun yf ym => hpost _ ⟨rfl, rfl, rfl, rfl, hok, hL, hT⟩) (L + 1) 0 yf ym (by omega) (by omega)⟩
theorem yw_ends0 {post : Int32 → SY → Prop} {x : Int32} (hx : ∀ p, p < 4 → x ≠ nI p) (hpost : post 0 v) : wpY_ends post v x := by
  obtain ⟨mn, sz, st, ct, ys, yf, ym⟩ := v
  unfold wpY_ends
  dsimp only
  refine ⟨1, ?_⟩
  rw [wY_ends_4]
  exact br_c (fun _ => hpost) (fun _ => yw_pt0 hx (br_t rfl hpost))
/-! firstEnd -/
theorem yw_fe2 {post : Int32 → SY → Prop} {p : Nat} (hok : dw_ok Z sz ct) (hL : L ≤ 60) (hT : ∀ j, j < L → ys j = nI (T j) ∧ T j < 4) (hp : p < 4)
    (hpost : ∀ r yf ym, sp_first r (fun t => ∃ f, dw_mt ct st T Z p f t) L → post r (nI L, sz, st, ct, ys, yf, ym)) :
    ∀ (n t : Nat) (yf ym : Nat → Int32), L < n + t → t ≤ L → (∀ t', t' < t → ¬ ∃ f, dw_mt ct st T Z p f t') → wY_firstEnd_2 post (nI p) n (nI t) (nI L) sz st ct ys yf ym := by
  intro n
  induction n with
  | zero => intro t yf ym h1 h2; omega
  | succ n ih =>
    intro t yf ym h1 h2 h
    rw [wY_firstEnd_2]
    by_cases e : t = L
    · subst e
      exact br_t (nI_le (Nat.le_refl _) (by omega)) (hpost _ yf ym (Or.inl ⟨rfl, h⟩))
    · refine br_f (nI_ge (by omega) (by omega)) (yw_pt1 hp (br_f (by decide) ?_))
      rw [nI_1 t]
      refine yw_ea hok hp (by omega) (fun j hj => hT j (by omega)) (fun g yf ym => br_f (by decide) (hpost _ yf ym (Or.inr ⟨t, by omega, rfl, g, h⟩))) (fun g yf ym => br_t rfl (nm_e (ih (t + 1) yf ym (by omega) (by omega) (fun t' ht' => ?_))))
      by_cases q : t' = t
      · subst q; exact g
      · exact h t' (by omega)
theorem yw_fe1 {post : Int32 → SY → Prop} {p : Nat} (h : yw_R L Z T sz st ct v) (hp : p < 4)
    (hpost : ∀ r v', sp_first r (fun t => ∃ f, dw_mt ct st T Z p f t) L → yw_R L Z T sz st ct v' → post r v') : wpY_firstEnd post v (nI p) := by
  obtain ⟨mn, sz', st', ct', ys, yf, ym⟩ := v
  obtain ⟨rfl, rfl, rfl, rfl, hok, hL, hT⟩ := h
  unfold wpY_firstEnd
  dsimp only
  exact ⟨L + 1, yw_fe2 hok hL hT hp (fun r yf ym hr => hpost r _ hr ⟨rfl, rfl, rfl, rfl, hok, hL, hT⟩) (L + 1) 0 yf ym (by omega) (by omega) (fun t ht => absurd ht (Nat.not_lt_zero t))⟩
theorem yw_fe0 {post : Int32 → SY → Prop} {x : Int32} (hx : ∀ p, p < 4 → x ≠ nI p) (hpost : post (-1) v) : wpY_firstEnd post v x := by
  obtain ⟨mn, sz, st, ct, ys, yf, ym⟩ := v
  unfold wpY_firstEnd
  dsimp only
  refine ⟨1, ?_⟩
  rw [wY_firstEnd_2]
  exact br_c (fun _ => hpost) (fun _ => yw_pt0 hx (br_t rfl hpost))
/-! earliest, latest -/
theorem yw_ey2 {post : Int32 → SY → Prop} {p t : Nat} (hok : dw_ok Z sz ct) (hL : L ≤ 60) (hT : ∀ j, j < L → ys j = nI (T j) ∧ T j < 4) (hp : p < 4) (ht : t < L)
    (hpost : ∀ r yf ym, sp_lo r (fun f => dw_mt ct st T Z p f t) → post r (nI L, sz, st, ct, ys, yf, ym)) :
    ∀ (n g : Nat) (yf ym : Nat → Int32), t + 1 < n + g → g ≤ t + 1 → (∀ f, f < g → ¬ dw_mt ct st T Z p f t) → wY_earliest_2 post (nI p) (nI t) n (nI g) (nI L) sz st ct ys yf ym := by
  have c : (nI (t + 1)).toNatClampNeg = t + 1 := nI_clamp (by omega)
  have w : vp_in (nI (t + 1)) 62 := vp_in_nI (by omega) (by omega)
  intro n
  induction n with
  | zero => intro g yf ym h1 h2; omega
  | succ n ih =>
    intro g yf ym h1 h2 h
    rw [wY_earliest_2]
    by_cases e : g = t + 1
    · subst e
      exact br_t (nI_lt (by omega) (by omega)) (hpost _ yf ym (Or.inl ⟨rfl, fun f hf => h f (by have := hf.1; omega) hf⟩))
    · refine br_f (nI_nlt (by omega) (by omega)) (yw_pt1 hp (br_f (by decide) (br_f (nI_ge ht (by omega)) ?_)))
      rw [nI_1 t]
      refine yw_work hok hp (by omega) (by omega) (fun j hj => hT j (by omega)) (fun yf ym hb => ?_)
      dsimp only
      rw [c]
      rcases hb (t + 1) (by omega) (by omega) with ⟨g1, g2⟩ | ⟨g1, g2⟩
      · refine ⟨w, br_f (by rw [g2]; decide) (hpost _ yf ym (Or.inr ⟨g, rfl, ⟨by omega, g1⟩, fun f hf => Nat.le_of_not_lt (fun q => h f q hf)⟩))⟩
      · refine ⟨w, br_t g2 (nm_r (nI_1 g) (ih (g + 1) yf ym (by omega) (by omega) (fun f hf => ?_)))⟩
        by_cases q : f = g
        · subst q; exact fun y => g1 y.2
        · exact h f (by omega)
theorem yw_early1 {post : Int32 → SY → Prop} {p t : Nat} (h : yw_R L Z T sz st ct v) (hp : p < 4) (ht : t < L)
    (hpost : ∀ r v', sp_lo r (fun f => dw_mt ct st T Z p f t) → yw_R L Z T sz st ct v' → post r v') : wpY_earliest post v (nI p) (nI t) := by
  obtain ⟨mn, sz', st', ct', ys, yf, ym⟩ := v
  obtain ⟨rfl, rfl, rfl, rfl, hok, hL, hT⟩ := h
  unfold wpY_earliest
  dsimp only
  exact ⟨t + 2, yw_ey2 hok hL hT hp ht (fun r yf ym hr => hpost r _ hr ⟨rfl, rfl, rfl, rfl, hok, hL, hT⟩) (t + 2) 0 yf ym (by omega) (by omega) (fun f hf => absurd hf (Nat.not_lt_zero f))⟩
theorem yw_early0 {post : Int32 → SY → Prop} {x y : Int32} (hx : ∀ p, p < 4 → x ≠ nI p) (hpost : post (-1) v) : wpY_earliest post v x y := by
  obtain ⟨mn, sz, st, ct, ys, yf, ym⟩ := v
  unfold wpY_earliest
  dsimp only
  refine ⟨1, ?_⟩
  rw [wY_earliest_2]
  exact br_c (fun _ => hpost) (fun _ => yw_pt0 hx (br_t rfl hpost))
theorem yw_early2 {post : Int32 → SY → Prop} {p : Nat} {y : Int32} (h : yw_R L Z T sz st ct v) (hp : p < 4) (hy : ∀ t, t < L → y ≠ nI t) (hpost : post (-1) v) : wpY_earliest post v (nI p) y := by
  obtain ⟨mn, sz', st', ct', ys, yf, ym⟩ := v
  obtain ⟨rfl, rfl, rfl, rfl, hok, hL, hT⟩ := h
  unfold wpY_earliest
  dsimp only
  refine ⟨1, ?_⟩
  rw [wY_earliest_2]
  refine br_c (fun _ => hpost) (fun z => yw_pt1 hp (br_f (by decide) (br_t ?_ hpost)))
  obtain ⟨j, hj, rfl⟩ := nI_of z
  exact nI_le (Nat.le_of_not_lt (fun w => hy j w rfl)) hj
theorem yw_la14 {post : Int32 → SY → Prop} {p t : Nat} (hok : dw_ok Z sz ct) (hL : L ≤ 60) (hT : ∀ j, j < L → ys j = nI (T j) ∧ T j < 4) (hp : p < 4) (ht : t < L)
    (hpost : ∀ r yf ym, sp_hi r (fun f => dw_mt ct st T Z p f t) → post r (nI L, sz, st, ct, ys, yf, ym)) :
    ∀ (n g : Nat) (yf ym : Nat → Int32), g < n → g ≤ t + 1 → (∀ f, g ≤ f → ¬ dw_mt ct st T Z p f t) → wY_latest_14 post (nI p) (nI t) n (nI g + (-1)) (nI L) sz st ct ys yf ym := by
  have c : (nI (t + 1)).toNatClampNeg = t + 1 := nI_clamp (by omega)
  have w : vp_in (nI (t + 1)) 62 := vp_in_nI (by omega) (by omega)
  intro n
  induction n with
  | zero => intro g yf ym h1 h2; omega
  | succ n ih =>
    intro g yf ym h1 h2 h
    rw [wY_latest_14]
    cases g with
    | zero => exact br_t (by decide) (hpost _ yf ym (Or.inl ⟨rfl, fun f => h f (Nat.zero_le f)⟩))
    | succ g =>
      rw [pk_m1 g]
      refine br_f (nI_pos (by omega)) (yw_pt1 hp (br_f (by decide) ?_))
      rw [nI_1 t]
      refine yw_work hok hp (by omega) (by omega) (fun j hj => hT j (by omega)) (fun yf ym hb => ?_)
      dsimp only
      rw [c]
      rcases hb (t + 1) (by omega) (by omega) with ⟨g1, g2⟩ | ⟨g1, g2⟩
      · refine ⟨w, br_f (by rw [g2]; decide) (hpost _ yf ym (Or.inr ⟨g, rfl, ⟨by omega, g1⟩, fun f hf => Nat.le_of_not_lt (fun q => h f q hf)⟩))⟩
      · refine ⟨w, br_t g2 (nm_e (ih g yf ym (by omega) (by omega) (fun f hf => ?_)))⟩
        by_cases q : f = g
        · subst q; exact fun y => g1 y.2
        · exact h f (by omega)
theorem yw_late1 {post : Int32 → SY → Prop} {p t : Nat} (h : yw_R L Z T sz st ct v) (hp : p < 4) (ht : t < L)
    (hpost : ∀ r v', sp_hi r (fun f => dw_mt ct st T Z p f t) → yw_R L Z T sz st ct v' → post r v') : wpY_latest post v (nI p) (nI t) := by
  obtain ⟨mn, sz', st', ct', ys, yf, ym⟩ := v
  obtain ⟨rfl, rfl, rfl, rfl, hok, hL, hT⟩ := h
  unfold wpY_latest
  dsimp only
  refine br_f (nI_ge ht (by omega)) ⟨t + 2, ?_⟩
  have k := yw_la14 hok hL hT hp ht (fun r yf ym hr => hpost r _ hr ⟨rfl, rfl, rfl, rfl, hok, hL, hT⟩) (t + 2) (t + 1) yf ym (by omega) (by omega) (fun f hf y => absurd y.1 (by omega))
  rw [pk_m1 t] at k
  exact k
theorem yw_late0 {post : Int32 → SY → Prop} {x y : Int32} (hx : ∀ p, p < 4 → x ≠ nI p) (hpost : post (-1) v) : wpY_latest post v x y := by
  obtain ⟨mn, sz, st, ct, ys, yf, ym⟩ := v
  unfold wpY_latest
  dsimp only
  refine br_c (fun _ => ⟨1, ?_⟩) (fun _ => ⟨1, ?_⟩)
  · rw [wY_latest_14]
    exact br_c (fun _ => hpost) (fun _ => yw_pt0 hx (br_t rfl hpost))
  · rw [wY_latest_14]
    exact br_c (fun _ => hpost) (fun _ => yw_pt0 hx (br_t rfl hpost))
theorem yw_late2 {post : Int32 → SY → Prop} {p : Nat} {y : Int32} (h : yw_R L Z T sz st ct v) (hy : ∀ t, t < L → y ≠ nI t) (hpost : post (-1) v) : wpY_latest post v (nI p) y := by
  obtain ⟨mn, sz', st', ct', ys, yf, ym⟩ := v
  obtain ⟨rfl, rfl, rfl, rfl, hok, hL, hT⟩ := h
  unfold wpY_latest
  dsimp only
  refine br_c (fun _ => ⟨1, ?_⟩) (fun z => ⟨1, ?_⟩)
  · rw [wY_latest_14]
    exact br_t (by decide) hpost
  · rw [wY_latest_14]
    by_cases q : y < 0
    · exact br_t q hpost
    · obtain ⟨j, hj, rfl⟩ := nI_of q
      exact absurd (nI_le (Nat.le_of_not_lt (fun w => hy j w rfl)) hj) z
/-! longest -/
theorem yw_lg35 {post : Int32 → SY → Prop} {J4 : Int32 → Int32 → Int32 → (Nat → Int32) → (Nat → Int32) → (Nat → Int32) → (Nat → Int32) → (Nat → Int32) → (Nat → Int32) → Prop} {x1 : Int32} {g : Nat} {F : Nat → Nat → Prop} (hL : L ≤ 60) (hg : g < L) (hb : ys_b (F g) yf g L)
    (hJ : ∀ b, sp_mx (fun f t => f < g + 1 ∧ t < L ∧ f ≤ t ∧ F f (t + 1)) b → J4 (nI b) (nI (g + 1)) (nI L) sz st ct ys yf ym) :
    ∀ (n q b : Nat), L + 1 < n + q → q ≤ L + 1 → g + 1 ≤ q → sp_mx (fun f t => (f < g ∨ (f = g ∧ t + 1 < q)) ∧ t < L ∧ f ≤ t ∧ F f (t + 1)) b →
    wY_longest_35 post J4 x1 (nI g) (nI L) sz st ct ys yf ym n (nI b) (nI q) := by
  intro n
  induction n with
  | zero => intro q b h1 h2; omega
  | succ n ih =>
    intro q b h1 h2 h3 hm
    rw [wY_longest_35]
    by_cases e : q = L + 1
    · subst e
      refine br_t (nI_lt (by omega) (by omega)) (nm_r (nI_1 g) (hJ b (sp_mx_cg hm (fun f t => ?_))))
      constructor
      · intro y
        exact ⟨by have := y.1; have := y.2.1; omega, y.2⟩
      · intro y
        exact ⟨by have := y.1; omega, y.2⟩
    · have c : (nI q).toNatClampNeg = q := nI_clamp (by omega)
      have w : vp_in (nI q) 62 := vp_in_nI (by omega) (by omega)
      have hbm := hm.1
      refine br_f (nI_nlt (by omega) (by omega)) ⟨w, ?_⟩
      rw [c]
      have hS : ∀ f t, ((f < g ∨ (f = g ∧ t + 1 < q + 1)) ∧ t < L ∧ f ≤ t ∧ F f (t + 1)) ↔ ((f < g ∨ (f = g ∧ t + 1 < q)) ∧ t < L ∧ f ≤ t ∧ F f (t + 1)) ∨ (f = g ∧ t + 1 = q ∧ F f (t + 1)) := by
        intro f t
        constructor
        · intro y
          by_cases z : f = g ∧ t + 1 = q
          · exact Or.inr ⟨z.1, z.2, y.2.2.2⟩
          · exact Or.inl ⟨by have := y.1; omega, y.2⟩
        · intro y
          rcases y with y | y
          · exact ⟨by have := y.1; omega, y.2⟩
          · obtain ⟨y1, y2, y3⟩ := y
            exact ⟨by omega, by omega, by omega, y3⟩
      have hN : ∀ f t, (f = g ∧ t + 1 = q ∧ F f (t + 1)) → t + 1 - f ≤ q - g := by
        intro f t y
        have y1 := y.1
        have y2 := y.2.1
        omega
      rcases hb q (by omega) (by omega) with ⟨g1, g2⟩ | ⟨g1, g2⟩
      · have hex : ∃ f t, (f = g ∧ t + 1 = q ∧ F f (t + 1)) ∧ q - g = t + 1 - f := ⟨g, q - 1, ⟨rfl, by omega, by rw [show q - 1 + 1 = q by omega]; exact g1⟩, by omega⟩
        refine br_f (by rw [g2]; decide) ?_
        rw [pk_sub (show g ≤ q by omega)]
        refine pk_le (q - g) b (fun z => nm_r (nI_1 q) ?_) (fun z => nm_e (nm_r (nI_1 q) ?_))
        · exact ih (q + 1) b (by omega) (by omega) (by omega) (sp_mx_le hm hS hN z)
        · exact ih (q + 1) (q - g) (by omega) (by omega) (by omega) (sp_mx_gt hm hS hN z (by omega) hex)
      · refine br_t g2 (nm_r (nI_1 q) (ih (q + 1) b (by omega) (by omega) (by omega) (sp_mx_cg hm (fun f t => ?_))))
        rw [hS f t]
        constructor
        · intro y
          rcases y with y | y
          · exact y
          · obtain ⟨y1, y2, y3⟩ := y
            subst y1
            rw [y2] at y3
            exact absurd y3 g1
        · intro y
          exact Or.inl y
theorem yw_lg4 {post : Int32 → SY → Prop} {p : Nat} (hok : dw_ok Z sz ct) (hL : L ≤ 60) (hT : ∀ j, j < L → ys j = nI (T j) ∧ T j < 4) (hp : p < 4)
    (hpost : ∀ b yf ym, sp_mx (fun f t => t < L ∧ dw_mt ct st T Z p f t) b → post (nI b) (nI L, sz, st, ct, ys, yf, ym)) :
    ∀ (n g b : Nat) (yf ym : Nat → Int32), L < n + g → g ≤ L → sp_mx (fun f t => f < g ∧ t < L ∧ f ≤ t ∧ dw_fit ct st T p f (Z p) (t + 1)) b →
    wY_longest_4 post (nI p) n (nI b) (nI g) (nI L) sz st ct ys yf ym := by
  intro n
  induction n with
  | zero => intro g b yf ym h1 h2; omega
  | succ n ih =>
    intro g b yf ym h1 h2 hm
    rw [wY_longest_4]
    by_cases e : g = L
    · subst e
      refine br_t (nI_le (Nat.le_refl _) (by omega)) (hpost b yf ym (sp_mx_cg hm (fun f t => ?_)))
      constructor
      · intro y
        have y1 := y.1
        have y2 := y.2.1
        exact ⟨by omega, y1, y2, y.2.2⟩
      · intro y
        exact y.2
    · refine br_f (nI_ge (by omega) (by omega)) (yw_pt1 hp (br_f (by decide) (yw_work hok hp (by omega) (by omega) hT (fun yf ym hb => nm_r (nI_1 g) ⟨L + 2, ?_⟩))))
      refine yw_lg35 (F := fun f q => dw_fit ct st T p f (Z p) q) hL (by omega) hb (fun b' hm' => ih (g + 1) b' yf ym (by omega) (by omega) hm') (L + 2) (g + 1) b (by omega) (by omega) (by omega) (sp_mx_cg hm (fun f t => ?_))
      constructor
      · intro y
        have y1 := y.1
        have y2 := y.2.2.1
        exact ⟨by omega, y.2⟩
      · intro y
        exact ⟨Or.inl y.1, y.2⟩
theorem yw_long1 {post : Int32 → SY → Prop} {p : Nat} (h : yw_R L Z T sz st ct v) (hp : p < 4)
    (hpost : ∀ b v', sp_mx (fun f t => t < L ∧ dw_mt ct st T Z p f t) b → yw_R L Z T sz st ct v' → post (nI b) v') : wpY_longest post v (nI p) := by
  obtain ⟨mn, sz', st', ct', ys, yf, ym⟩ := v
  obtain ⟨rfl, rfl, rfl, rfl, hok, hL, hT⟩ := h
  unfold wpY_longest
  dsimp only
  exact ⟨L + 1, yw_lg4 hok hL hT hp (fun b yf ym hm => hpost b _ hm ⟨rfl, rfl, rfl, rfl, hok, hL, hT⟩) (L + 1) 0 0 yf ym (by omega) (by omega) ⟨by omega, Or.inl rfl, fun f t s => absurd s.1 (Nat.not_lt_zero f)⟩⟩
theorem yw_long0 {post : Int32 → SY → Prop} {x : Int32} (hx : ∀ p, p < 4 → x ≠ nI p) (hpost : post 0 v) : wpY_longest post v x := by
  obtain ⟨mn, sz, st, ct, ys, yf, ym⟩ := v
  unfold wpY_longest
  dsimp only
  refine ⟨1, ?_⟩
  rw [wY_longest_4]
  exact br_c (fun _ => hpost) (fun _ => yw_pt0 hx (br_t rfl hpost))
/-! completing -/
theorem yw_cp4 {post : Int32 → SY → Prop} {p : Nat} (hok : dw_ok Z sz ct) (hL : L ≤ 60) (hp : p < 4)
    (hpost : ∀ r ys yf ym, sp_set r (fun s => ∃ f, dw_mt ct st (dw_T T L s) Z p f L) → (∀ j, j < L → ys j = nI (T j) ∧ T j < 4) → post r (nI L, sz, st, ct, ys, yf, ym)) :
    ∀ (n s : Nat) (x : Int32) (ys yf ym : Nat → Int32), 4 < n + s → s ≤ 4 → (∀ j, j < L → ys j = nI (T j) ∧ T j < 4) → (∀ i, i < 32 → (bt x i = true ↔ i < s ∧ ∃ f, dw_mt ct st (dw_T T L i) Z p f L)) →
    wY_completing_4 post (nI p) n x (nI s) (nI L) sz st ct ys yf ym := by
  have c : (nI L).toNatClampNeg = L := nI_clamp (by omega)
  intro n
  induction n with
  | zero => intro s x ys yf ym h1 h2; omega
  | succ n ih =>
    intro s x ys yf ym h1 h2 hT h
    rw [wY_completing_4]
    by_cases e : s = 4
    · subst e
      exact br_t (nI_le (a := 4) (Nat.le_refl _) (by omega)) (hpost x ys yf ym h hT)
    · have hs : s < 4 := by omega
      refine br_f (nI_ge (b := 4) (by omega) (by omega)) (yw_pt1 hp (br_f (by decide) ⟨vp_in_nI (by omega) (by omega), nm_e ?_⟩))
      rw [c, nI_1 L]
      have hT' : ∀ j, j < L → upd ys L (nI s) j = nI (T j) ∧ T j < 4 := by
        intro j hj
        rw [pk_un (by omega)]
        exact hT j hj
      refine yw_ea hok hp hL (dw_str hs hT) (fun g yf ym => br_f (by decide) (nm_e (nm_r (nI_1 s) (ih (s + 1) _ _ yf ym (by omega) (by omega) hT' ?_)))) (fun g yf ym => br_t rfl (nm_r (nI_1 s) (ih (s + 1) _ _ yf ym (by omega) (by omega) hT' ?_)))
      · intro i hi
        rw [bw_or, h i hi, bw_one (by omega) hi]
        constructor
        · intro y
          rcases y with y | y
          · exact ⟨by omega, y.2⟩
          · subst y
            exact ⟨by omega, g⟩
        · intro y
          by_cases q : i = s
          · exact Or.inr q
          · exact Or.inl ⟨by omega, y.2⟩
      · intro i hi
        rw [h i hi]
        constructor
        · intro y
          exact ⟨by omega, y.2⟩
        · intro y
          by_cases q : i = s
          · subst q; exact absurd y.2 g
          · exact ⟨by omega, y.2⟩
theorem yw_comp1 {post : Int32 → SY → Prop} {p : Nat} (h : yw_R L Z T sz st ct v) (hp : p < 4)
    (hpost : ∀ r v', sp_set r (fun s => ∃ f, dw_mt ct st (dw_T T L s) Z p f L) → yw_R L Z T sz st ct v' → post r v') : wpY_completing post v (nI p) := by
  obtain ⟨mn, sz', st', ct', ys, yf, ym⟩ := v
  obtain ⟨rfl, rfl, rfl, rfl, hok, hL, hT⟩ := h
  unfold wpY_completing
  dsimp only
  exact ⟨5, yw_cp4 hok hL hp (fun r ys yf ym hr hT => hpost r _ hr ⟨rfl, rfl, rfl, rfl, hok, hL, hT⟩) 5 0 0 ys yf ym (by omega) (by omega) hT (fun i _ => ⟨fun y => absurd y bw_0, fun y => absurd y.1 (Nat.not_lt_zero i)⟩)⟩
theorem yw_comp0 {post : Int32 → SY → Prop} {x : Int32} (hx : ∀ p, p < 4 → x ≠ nI p) (hpost : post 0 v) : wpY_completing post v x := by
  obtain ⟨mn, sz, st, ct, ys, yf, ym⟩ := v
  unfold wpY_completing
  dsimp only
  refine ⟨1, ?_⟩
  rw [wY_completing_4]
  exact br_f (by decide) (yw_pt0 hx (br_t rfl hpost))
/-! emptyFits -/
theorem yw_ef4 {post : Int32 → SY → Prop} (hok : dw_ok Z sz ct)
    (hpost : ∀ r yf ym, sp_set r (fun p => pw_em (dw_E ct p) 0 (Z p)) → post r (mn, sz, st, ct, ys, yf, ym)) :
    ∀ (n p : Nat) (x : Int32) (yf ym : Nat → Int32), 4 < n + p → p ≤ 4 → (∀ i, i < 32 → (bt x i = true ↔ i < p ∧ pw_em (dw_E ct i) 0 (Z i))) → wY_emptyFits_4 post n x (nI p) mn sz st ct ys yf ym := by
  intro n
  induction n with
  | zero => intro p x yf ym h1 h2; omega
  | succ n ih =>
    intro p x yf ym h1 h2 h
    rw [wY_emptyFits_4]
    by_cases e : p = 4
    · subst e
      exact br_t (nI_le (a := 4) (Nat.le_refl _) (by omega)) (hpost x yf ym h)
    · refine br_f (nI_ge (b := 4) (by omega) (by omega)) (yw_work (T := fun _ => 0) (f := 0) (N := 0) hok (by omega) (by omega) (by omega) (fun j hj => absurd hj (Nat.not_lt_zero j)) (fun yf ym hb => ?_))
      have hf : dw_fit ct st (fun _ => 0) p 0 (Z p) 0 ↔ pw_em (dw_E ct p) 0 (Z p) := pw_fit_self
      dsimp only
      rcases hb 0 (Nat.le_refl 0) (Nat.le_refl 0) with ⟨g1, g2⟩ | ⟨g1, g2⟩
      · have g := hf.mp g1
        refine br_f (by rw [g2]; decide) (nm_e (nm_r (nI_1 p) (ih (p + 1) _ yf ym (by omega) (by omega) ?_)))
        intro i hi
        rw [bw_or, h i hi, bw_one (by omega) hi]
        constructor
        · intro y
          rcases y with y | y
          · exact ⟨by omega, y.2⟩
          · subst y
            exact ⟨by omega, g⟩
        · intro y
          by_cases q : i = p
          · exact Or.inr q
          · exact Or.inl ⟨by omega, y.2⟩
      · have g : ¬ pw_em (dw_E ct p) 0 (Z p) := fun y => g1 (hf.mpr y)
        refine br_t g2 (nm_r (nI_1 p) (ih (p + 1) _ yf ym (by omega) (by omega) ?_))
        intro i hi
        rw [h i hi]
        constructor
        · intro y
          exact ⟨by omega, y.2⟩
        · intro y
          by_cases q : i = p
          · subst q; exact absurd y.2 g
          · exact ⟨by omega, y.2⟩
theorem yw_eft {post : Int32 → SY → Prop} (h : yw_R L Z T sz st ct v)
    (hpost : ∀ r v', sp_set r (fun p => pw_em (dw_E ct p) 0 (Z p)) → yw_R L Z T sz st ct v' → post r v') : wpY_emptyFits post v := by
  obtain ⟨mn, sz', st', ct', ys, yf, ym⟩ := v
  obtain ⟨rfl, rfl, rfl, rfl, hok, hL, hT⟩ := h
  unfold wpY_emptyFits
  dsimp only
  exact ⟨5, yw_ef4 hok (fun r yf ym hr => hpost r _ hr ⟨rfl, rfl, rfl, rfl, hok, hL, hT⟩) 5 0 0 yf ym (by omega) (by omega) (fun i _ => ⟨fun y => absurd y bw_0, fun y => absurd y.1 (Nat.not_lt_zero i)⟩)⟩
/-! push -/
theorem yw_push1 {post : Int32 → SY → Prop} {s : Nat} (h : yw_R L Z T sz st ct v) (hL : L < 60) (hs : s < 4)
    (hpost : ∀ r v', sp_set r (fun p => ∃ f, dw_mt ct st (dw_T T L s) Z p f L) → yw_R (L + 1) Z (dw_T T L s) sz st ct v' → post r v') : wpY_push post v (nI s) := by
  obtain ⟨mn, sz', st', ct', ys, yf, ym⟩ := v
  obtain ⟨rfl, rfl, rfl, rfl, hok, _, hT⟩ := h
  have c : (nI L).toNatClampNeg = L := nI_clamp (by omega)
  unfold wpY_push
  dsimp only
  rw [c]
  refine br_f (nI_pos (by omega)) (br_t (nI_le (b := 3) (by omega) (by omega)) (br_t (nI_lt (b := 60) (by omega) (by omega)) ⟨vp_in_nI (by omega) (by omega), nm_e (nm_r (nI_1 L) ?_)⟩))
  rw [nI_pred L]
  refine yw_endA1 (L := L + 1) (Z := Z) (T := dw_T T L s) (sz := sz') (st := st') (ct := ct') ⟨rfl, rfl, rfl, rfl, hok, by omega, dw_str hs hT⟩ (by omega) (fun r v' hr hv => ?_)
  obtain ⟨mn2, sz2, st2, ct2, ys2, yf2, ym2⟩ := v'
  exact hpost r _ hr hv
theorem yw_push0 {post : Int32 → SY → Prop} {x : Int32} (hx : ∀ s, s < 4 → x ≠ nI s) (hpost : post (-1) v) : wpY_push post v x := by
  obtain ⟨mn, sz, st, ct, ys, yf, ym⟩ := v
  unfold wpY_push
  dsimp only
  refine br_c (fun _ => hpost) (fun z => br_f (fun y => ?_) hpost)
  obtain ⟨j, hj, e⟩ := nI_of2 (M := 3) (n := 3) (by decide) z y
  exact hx j (by omega) e
theorem yw_push2 {post : Int32 → SY → Prop} {s : Nat} (h : yw_R L Z T sz st ct v) (hL : ¬ L < 60) (hs : s < 4) (hpost : post (-2) v) : wpY_push post v (nI s) := by
  obtain ⟨mn, sz', st', ct', ys, yf, ym⟩ := v
  obtain ⟨rfl, rfl, rfl, rfl, hok, hL6, hT⟩ := h
  unfold wpY_push
  dsimp only
  exact br_f (nI_pos (by omega)) (br_t (nI_le (b := 3) (by omega) (by omega)) (br_f (nI_nlt (b := 60) (by omega) (by omega)) hpost))
/-! patterns -/
theorem yw_item0 {post : Int32 → SY → Prop} {x y z : Int32} (hb : dw_bad x y z) (h : post (-1) v) : wpY_item post v x y z := by
  obtain ⟨mn, sz, st, ct, ys, yf, ym⟩ := v
  unfold wpY_item
  dsimp only
  rcases pw_pat x 4 with ⟨p, hp, rfl⟩ | hx
  · refine yw_pt1 hp (br_f (by decide) (br_c (fun _ => h) (fun n1 => br_c (fun _ => h) (fun n2 => br_c (fun _ => h) (fun n3 => br_f (fun n4 => ?_) h)))))
    rcases hb with hb | hb | hb | hb | hb
    · exact hb p hp rfl
    · exact n1 hb
    · exact n2 hb
    · exact n3 hb
    · exact hb n4
  · exact yw_pt0 hx (br_t rfl h)
theorem yw_item2 {post : Int32 → SY → Prop} {p : Nat} {y z : Int32} (h : yw_R L Z T sz st ct v) (hp : p < 4) (n1 : ¬ y < 1) (n2 : ¬ 15 < y) (n3 : ¬ z < 0) (n4 : z ≤ 3) (hf : ¬ Z p < 6)
    (hpost : post (-2) v) : wpY_item post v (nI p) y z := by
  obtain ⟨mn, sz', st', ct', ys, yf, ym⟩ := v
  obtain ⟨rfl, rfl, rfl, rfl, hok, hL6, hT⟩ := h
  have c : (nI p).toNatClampNeg = p := nI_clamp (by omega)
  obtain ⟨hz, hz6⟩ := hok.1 p hp
  unfold wpY_item
  dsimp only
  rw [c, hz]
  exact yw_pt1 hp (br_f (by decide) (br_f n1 (br_f n2 (br_f n3 (br_t n4 ⟨vp_in_nI hp (by omega), br_f (nI_nlt (b := 6) (by omega) (by omega)) hpost⟩)))))
theorem yw_item1 {post : Int32 → SY → Prop} {p : Nat} {y z : Int32} (h : yw_R L Z T sz st ct v) (hp : p < 4) (n1 : ¬ y < 1) (n2 : ¬ 15 < y) (n3 : ¬ z < 0) (n4 : z ≤ 3) (hf : Z p < 6)
    (hpost : ∀ v', yw_R L (dw_up Z p (Z p + 1)) T (upd sz p (nI (Z p + 1))) (upd st (6 * p + Z p) y) (upd ct (6 * p + Z p) z) v' → post (nI (Z p + 1)) v') : wpY_item post v (nI p) y z := by
  obtain ⟨mn, sz', st', ct', ys, yf, ym⟩ := v
  obtain ⟨rfl, rfl, rfl, rfl, hok, hL6, hT⟩ := h
  have c : (nI p).toNatClampNeg = p := nI_clamp (by omega)
  have c2 : (nI (6 * p + Z p)).toNatClampNeg = 6 * p + Z p := nI_clamp (by omega)
  have w : vp_in (nI p) 4 := vp_in_nI hp (by omega)
  have w2 : vp_in (nI (6 * p + Z p)) 24 := vp_in_nI (by omega) (by omega)
  obtain ⟨hz, hz6⟩ := hok.1 p hp
  obtain ⟨_, ⟨k, hk, ek⟩⟩ := dw_good n1 n2 n3 n4
  unfold wpY_item
  dsimp only
  rw [c, hz, bw_6c, c2, nI_1 (Z p)]
  refine yw_pt1 hp (br_f (by decide) (br_f n1 (br_f n2 (br_f n3 (br_t n4 ⟨w, br_t (nI_lt (b := 6) hf (by omega)) ⟨w, w2, nm_e ⟨w, w2, nm_e ⟨w, w, nm_e ⟨w, ?_⟩⟩⟩⟩⟩)))))
  rw [pk_us]
  have hok' : dw_ok (dw_up Z p (Z p + 1)) (upd sz' p (nI (Z p + 1))) (upd ct' (6 * p + Z p) z) := by
    rw [ek]
    exact dw_ok_ct (dw_ok_up hok (by omega)) hk
  exact hpost _ ⟨rfl, rfl, rfl, rfl, hok', hL6, hT⟩
theorem yw_drop0 {post : Int32 → SY → Prop} {x : Int32} (hx : ∀ p, p < 4 → x ≠ nI p) (hpost : post (-1) v) : wpY_drop post v x := by
  obtain ⟨mn, sz, st, ct, ys, yf, ym⟩ := v
  unfold wpY_drop
  dsimp only
  exact yw_pt0 hx (br_t rfl hpost)
theorem yw_drop2 {post : Int32 → SY → Prop} {p : Nat} (h : yw_R L Z T sz st ct v) (hp : p < 4) (hf : Z p = 0) (hpost : post (-1) v) : wpY_drop post v (nI p) := by
  obtain ⟨mn, sz', st', ct', ys, yf, ym⟩ := v
  obtain ⟨rfl, rfl, rfl, rfl, hok, hL6, hT⟩ := h
  have c : (nI p).toNatClampNeg = p := nI_clamp (by omega)
  obtain ⟨hz, hz6⟩ := hok.1 p hp
  unfold wpY_drop
  dsimp only
  rw [c, hz, hf]
  exact yw_pt1 hp (br_f (by decide) ⟨vp_in_nI hp (by omega), br_t rfl hpost⟩)
theorem yw_drop1 {post : Int32 → SY → Prop} {p m : Nat} (h : yw_R L Z T sz st ct v) (hp : p < 4) (hf : Z p = m + 1)
    (hpost : ∀ v', yw_R L (dw_up Z p m) T (upd sz p (nI m)) st ct v' → post (nI m) v') : wpY_drop post v (nI p) := by
  obtain ⟨mn, sz', st', ct', ys, yf, ym⟩ := v
  obtain ⟨rfl, rfl, rfl, rfl, hok, hL6, hT⟩ := h
  have c : (nI p).toNatClampNeg = p := nI_clamp (by omega)
  have w : vp_in (nI p) 4 := vp_in_nI hp (by omega)
  obtain ⟨hz, hz6⟩ := hok.1 p hp
  unfold wpY_drop
  dsimp only
  rw [c, hz, hf, nI_pred m]
  refine yw_pt1 hp (br_f (by decide) ⟨w, br_f (nI_ne0 (by omega) (by omega)) ⟨w, w, nm_e ⟨w, ?_⟩⟩⟩)
  rw [pk_us]
  exact hpost _ ⟨rfl, rfl, rfl, rfl, dw_ok_up hok (by omega), hL6, hT⟩
theorem yw_items1 {post : Int32 → Prop} {p : Nat} (h : yw_R L Z T sz st ct v) (hp : p < 4) (hpost : post (sz p)) : wpY_items post v (nI p) := by
  obtain ⟨mn, sz', st', ct', ys, yf, ym⟩ := v
  obtain ⟨rfl, rfl, rfl, rfl, hok, hL6, hT⟩ := h
  have c : (nI p).toNatClampNeg = p := nI_clamp (by omega)
  unfold wpY_items
  dsimp only
  rw [c]
  exact yw_pt1 hp (br_f (by decide) ⟨vp_in_nI hp (by omega), hpost⟩)
theorem yw_items0 {post : Int32 → Prop} {x : Int32} (hx : ∀ p, p < 4 → x ≠ nI p) (hpost : post (-1)) : wpY_items post v x := by
  obtain ⟨mn, sz, st, ct, ys, yf, ym⟩ := v
  unfold wpY_items
  dsimp only
  exact yw_pt0 hx (br_t rfl hpost)
theorem yw_reset {post : SY → Prop} (h : yw_R L Z T sz st ct v) (hpost : ∀ v', yw_R 0 Z T sz st ct v' → post v') : wpY_reset post v := by
  obtain ⟨mn, sz', st', ct', ys, yf, ym⟩ := v
  obtain ⟨rfl, rfl, rfl, rfl, hok, hL6, hT⟩ := h
  unfold wpY_reset
  dsimp only
  exact hpost _ ⟨rfl, rfl, rfl, rfl, hok, by omega, fun j hj => absurd hj (Nat.not_lt_zero j)⟩
theorem yw_taken {post : Int32 → Prop} (h : yw_R L Z T sz st ct v) (hpost : post (nI L)) : wpY_taken post v := by
  obtain ⟨mn, sz', st', ct', ys, yf, ym⟩ := v
  obtain ⟨rfl, rfl, rfl, rfl, hok, hL6, hT⟩ := h
  exact hpost
end YA
end
section
/-! WHAT IS OWED -/
/-- the relation: L symbols T in the stream, pattern p of size Z p, items' sets st and counts ct, on both sides -/
def i_Rel (k : Nat) (u : SX) (v : SY) : Prop := ∃ (L : Nat) (Z T : Nat → Nat) (sz st ct : Nat → Int32), xw_R L Z T sz st ct u ∧ yw_R L Z T sz st ct v
theorem i_up {k : Nat} {u : SX} {v : SY} (h : i_Rel k u v) : i_Rel (k + 4) u v := h
theorem i_vc0 : wpX_init (fun u => wpY_init (fun v => i_Rel 0 u v)) := by
  have hok : dw_ok (fun _ => 0) (fun _ => 0) (fun _ => 0) := ⟨fun _ _ => ⟨rfl, Nat.zero_le 6⟩, fun _ _ => Or.inl rfl⟩
  unfold wpX_init wpY_init
  exact ⟨0, fun _ => 0, fun _ => 0, fun _ => 0, fun _ => 0, fun _ => 0, xw_new (L := 0) hok (by omega) (fun j hj => absurd hj (Nat.not_lt_zero j)), ⟨rfl, rfl, rfl, rfl, hok, by omega, fun j hj => absurd hj (Nat.not_lt_zero j)⟩⟩
theorem i_vc_item {k : Nat} {u : SX} {v : SY} (I : i_Rel k u v) (hk : k + 4 ≤ 2048) (v1 : Int32) (v2 : Int32) (v3 : Int32) : wpX_item (fun r u' => wpY_item (fun r' v' => r' = r ∧ i_Rel (k + 4) u' v') v v1 v2 v3) u v1 v2 v3 := by
  obtain ⟨L, Z, T, sz, st, ct, hx, hy⟩ := id I
  by_cases hb : dw_bad v1 v2 v3
  · exact xw_item0 hb (yw_item0 hb ⟨rfl, I⟩)
  · rcases pw_pat v1 4 with ⟨p, hp, rfl⟩ | hp
    · have n1 : ¬ v2 < 1 := fun h => hb (Or.inr (Or.inl h))
      have n2 : ¬ 15 < v2 := fun h => hb (Or.inr (Or.inr (Or.inl h)))
      have n3 : ¬ v3 < 0 := fun h => hb (Or.inr (Or.inr (Or.inr (Or.inl h))))
      have n4 : v3 ≤ 3 := Classical.byContradiction (fun h => hb (Or.inr (Or.inr (Or.inr (Or.inr h)))))
      by_cases hf : Z p < 6
      · exact xw_item1 hx hp n1 n2 n3 n4 hf (fun u' hu => yw_item1 hy hp n1 n2 n3 n4 hf (fun v' hv => ⟨rfl, ⟨_, _, _, _, _, _, hu, hv⟩⟩))
      · exact xw_item2 hx hp n1 n2 n3 n4 hf (yw_item2 hy hp n1 n2 n3 n4 hf ⟨rfl, I⟩)
    · exact absurd (Or.inl hp) hb
theorem i_vc_drop {k : Nat} {u : SX} {v : SY} (I : i_Rel k u v) (hk : k + 4 ≤ 2048) (v1 : Int32) : wpX_drop (fun r u' => wpY_drop (fun r' v' => r' = r ∧ i_Rel (k + 4) u' v') v v1) u v1 := by
  obtain ⟨L, Z, T, sz, st, ct, hx, hy⟩ := id I
  rcases pw_pat v1 4 with ⟨p, hp, rfl⟩ | hp
  · cases hm : Z p with
    | zero => exact xw_drop2 hx hp hm (yw_drop2 hy hp hm ⟨rfl, I⟩)
    | succ m => exact xw_drop1 hx hp hm (fun u' hu => yw_drop1 hy hp hm (fun v' hv => ⟨rfl, ⟨_, _, _, _, _, _, hu, hv⟩⟩))
  · exact xw_drop0 hp (yw_drop0 hp ⟨rfl, I⟩)
theorem i_vc_items {k : Nat} {u : SX} {v : SY} (I : i_Rel k u v) (hk : k + 4 ≤ 2048) (v1 : Int32) : wpX_items (fun r => wpY_items (fun r' => r' = r ∧ i_Rel (k + 4) u v) v v1) u v1 := by
  obtain ⟨L, Z, T, sz, st, ct, hx, hy⟩ := id I
  rcases pw_pat v1 4 with ⟨p, hp, rfl⟩ | hp
  · exact xw_items1 hx hp (yw_items1 hy hp ⟨rfl, I⟩)
  · exact xw_items0 hp (yw_items0 hp ⟨rfl, I⟩)
theorem i_vc_push {k : Nat} {u : SX} {v : SY} (I : i_Rel k u v) (hk : k + 4 ≤ 2048) (v1 : Int32) : wpX_push (fun r u' => wpY_push (fun r' v' => r' = r ∧ i_Rel (k + 4) u' v') v v1) u v1 := by
  obtain ⟨L, Z, T, sz, st, ct, hx, hy⟩ := id I
  rcases pw_pat v1 4 with ⟨s, hs, rfl⟩ | hs
  · by_cases hL : L < 60
    · exact xw_push1 hx hL hs (fun r u' hr hu => yw_push1 hy hL hs (fun r' v' hr' hv => ⟨sp_set_uq hr hr', ⟨_, _, _, _, _, _, hu, hv⟩⟩))
    · exact xw_push2 hx hL hs (yw_push2 hy hL hs ⟨rfl, I⟩)
  · exact xw_push0 hs (yw_push0 hs ⟨rfl, I⟩)
theorem i_vc_reset {k : Nat} {u : SX} {v : SY} (I : i_Rel k u v) (hk : k + 4 ≤ 2048) : wpX_reset (fun u' => wpY_reset (fun v' => i_Rel (k + 4) u' v') v) u := by
  obtain ⟨L, Z, T, sz, st, ct, hx, hy⟩ := id I
  exact xw_reset hx (fun u' hu => yw_reset hy (fun v' hv => ⟨_, _, _, _, _, _, hu, hv⟩))
theorem i_vc_taken {k : Nat} {u : SX} {v : SY} (I : i_Rel k u v) (hk : k + 4 ≤ 2048) : wpX_taken (fun r => wpY_taken (fun r' => r' = r ∧ i_Rel (k + 4) u v) v) u := by
  obtain ⟨L, Z, T, sz, st, ct, hx, hy⟩ := id I
  exact xw_taken hx (yw_taken hy ⟨rfl, I⟩)
theorem i_vc_endingAt {k : Nat} {u : SX} {v : SY} (I : i_Rel k u v) (hk : k + 4 ≤ 2048) (v1 : Int32) : wpX_endingAt (fun r u' => wpY_endingAt (fun r' v' => r' = r ∧ i_Rel (k + 4) u' v') v v1) u v1 := by
  obtain ⟨L, Z, T, sz, st, ct, hx, hy⟩ := id I
  rcases pw_pat v1 L with ⟨t, ht, rfl⟩ | ht
  · exact xw_endA1 hx ht (fun r u' hr hu => yw_endA1 hy ht (fun r' v' hr' hv => ⟨sp_set_uq hr hr', ⟨_, _, _, _, _, _, hu, hv⟩⟩))
  · exact xw_endA0 hx ht (yw_endA0 hy ht ⟨rfl, I⟩)
theorem i_vc_ends {k : Nat} {u : SX} {v : SY} (I : i_Rel k u v) (hk : k + 4 ≤ 2048) (v1 : Int32) : wpX_ends (fun r u' => wpY_ends (fun r' v' => r' = r ∧ i_Rel (k + 4) u' v') v v1) u v1 := by
  obtain ⟨L, Z, T, sz, st, ct, hx, hy⟩ := id I
  rcases pw_pat v1 4 with ⟨p, hp, rfl⟩ | hp
  · exact xw_ends1 hx hp (fun u' hu => yw_ends1 hy hp (fun v' hv => ⟨rfl, ⟨_, _, _, _, _, _, hu, hv⟩⟩))
  · exact xw_ends0 hp (yw_ends0 hp ⟨rfl, I⟩)
theorem i_vc_firstEnd {k : Nat} {u : SX} {v : SY} (I : i_Rel k u v) (hk : k + 4 ≤ 2048) (v1 : Int32) : wpX_firstEnd (fun r u' => wpY_firstEnd (fun r' v' => r' = r ∧ i_Rel (k + 4) u' v') v v1) u v1 := by
  obtain ⟨L, Z, T, sz, st, ct, hx, hy⟩ := id I
  rcases pw_pat v1 4 with ⟨p, hp, rfl⟩ | hp
  · exact xw_fe1 hx hp (fun r u' hr hu => yw_fe1 hy hp (fun r' v' hr' hv => ⟨sp_first_uq hr hr', ⟨_, _, _, _, _, _, hu, hv⟩⟩))
  · exact xw_fe0 hp (yw_fe0 hp ⟨rfl, I⟩)
theorem i_vc_earliest {k : Nat} {u : SX} {v : SY} (I : i_Rel k u v) (hk : k + 4 ≤ 2048) (v1 : Int32) (v2 : Int32) : wpX_earliest (fun r u' => wpY_earliest (fun r' v' => r' = r ∧ i_Rel (k + 4) u' v') v v1 v2) u v1 v2 := by
  obtain ⟨L, Z, T, sz, st, ct, hx, hy⟩ := id I
  rcases pw_pat v1 4 with ⟨p, hp, rfl⟩ | hp
  · rcases pw_pat v2 L with ⟨t, ht, rfl⟩ | ht
    · exact xw_early1 hx hp ht (fun r u' hr hu => yw_early1 hy hp ht (fun r' v' hr' hv => ⟨sp_lo_uq hr hr', ⟨_, _, _, _, _, _, hu, hv⟩⟩))
    · exact xw_early2 hx hp ht (yw_early2 hy hp ht ⟨rfl, I⟩)
  · exact xw_early0 hp (yw_early0 hp ⟨rfl, I⟩)
theorem i_vc_latest {k : Nat} {u : SX} {v : SY} (I : i_Rel k u v) (hk : k + 4 ≤ 2048) (v1 : Int32) (v2 : Int32) : wpX_latest (fun r u' => wpY_latest (fun r' v' => r' = r ∧ i_Rel (k + 4) u' v') v v1 v2) u v1 v2 := by
  obtain ⟨L, Z, T, sz, st, ct, hx, hy⟩ := id I
  rcases pw_pat v1 4 with ⟨p, hp, rfl⟩ | hp
  · rcases pw_pat v2 L with ⟨t, ht, rfl⟩ | ht
    · exact xw_late1 hx hp ht (fun r u' hr hu => yw_late1 hy hp ht (fun r' v' hr' hv => ⟨sp_hi_uq hr hr', ⟨_, _, _, _, _, _, hu, hv⟩⟩))
    · exact xw_late2 hx hp ht (yw_late2 hy ht ⟨rfl, I⟩)
  · exact xw_late0 hp (yw_late0 hp ⟨rfl, I⟩)
theorem i_vc_longest {k : Nat} {u : SX} {v : SY} (I : i_Rel k u v) (hk : k + 4 ≤ 2048) (v1 : Int32) : wpX_longest (fun r u' => wpY_longest (fun r' v' => r' = r ∧ i_Rel (k + 4) u' v') v v1) u v1 := by
  obtain ⟨L, Z, T, sz, st, ct, hx, hy⟩ := id I
  rcases pw_pat v1 4 with ⟨p, hp, rfl⟩ | hp
  · exact xw_long1 hx hp (fun b u' hb hu => yw_long1 hy hp (fun b' v' hb' hv => ⟨congrArg nI (sp_mx_uq hb hb'), ⟨_, _, _, _, _, _, hu, hv⟩⟩))
  · exact xw_long0 hx hp (yw_long0 hp ⟨rfl, I⟩)
theorem i_vc_completing {k : Nat} {u : SX} {v : SY} (I : i_Rel k u v) (hk : k + 4 ≤ 2048) (v1 : Int32) : wpX_completing (fun r u' => wpY_completing (fun r' v' => r' = r ∧ i_Rel (k + 4) u' v') v v1) u v1 := by
  obtain ⟨L, Z, T, sz, st, ct, hx, hy⟩ := id I
  rcases pw_pat v1 4 with ⟨p, hp, rfl⟩ | hp
  · exact xw_comp1 hx hp (fun r u' hr hu => yw_comp1 hy hp (fun r' v' hr' hv => ⟨sp_set_uq hr hr', ⟨_, _, _, _, _, _, hu, hv⟩⟩))
  · exact xw_comp0 hp (yw_comp0 hp ⟨rfl, I⟩)
theorem i_vc_emptyFits {k : Nat} {u : SX} {v : SY} (I : i_Rel k u v) (hk : k + 4 ≤ 2048) : wpX_emptyFits (fun r => wpY_emptyFits (fun r' v' => r' = r ∧ i_Rel (k + 4) u v') v) u := by
  obtain ⟨L, Z, T, sz, st, ct, hx, hy⟩ := id I
  exact xw_eft hx (fun r hr => yw_eft hy (fun r' v' hr' hv => ⟨sp_set_uq hr hr', ⟨_, _, _, _, _, _, hx, hv⟩⟩))
end
