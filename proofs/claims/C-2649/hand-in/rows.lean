section
theorem pk_us {f : Nat → Int32} {k : Nat} {x : Int32} : upd f k x k = x := if_pos rfl
theorem pk_un {f : Nat → Int32} {k j : Nat} {x : Int32} (h : j ≠ k) : upd f k x j = f j := if_neg h
theorem pk_sub {a b : Nat} (h : b ≤ a) : nI a - nI b = nI (a - b) := by
  obtain ⟨c, rfl⟩ : ∃ c, a = c + b := ⟨a - b, by omega⟩
  rw [← nI_add, Int32.add_sub_cancel, Nat.add_sub_cancel]
theorem pk_m1 (n : Nat) : nI (n + 1) + (-1) = nI n := by
  rw [← nI_1, Int32.add_assoc, show (1 : Int32) + (-1) = 0 from rfl, Int32.add_zero]
theorem pk_mul (a b : Nat) : nI a * nI b = nI (a * b) := (Int32.ofNat_mul a b).symm
theorem pk_ix (x : Int32) {n : Nat} (hn : n < 2 ^ 31) : x < 0 ∨ nI n ≤ x ∨ ∃ j : Nat, j < n ∧ x = nI j := by
  by_cases h : x < 0
  · exact Or.inl h
  · obtain ⟨j, hj, rfl⟩ := nI_of h
    by_cases h2 : j < n
    · exact Or.inr (Or.inr ⟨j, h2, rfl⟩)
    · exact Or.inr (Or.inl (nI_le (by omega) hj))
theorem pk_le {x y : Int32} {A B : Prop} (a b : Nat) (f : a ≤ b → A) (g : b < a → B) (hx : x = nI a := by rfl) (hy : y = nI b := by rfl) (ha : a < 2 ^ 31 := by omega) (hb : b < 2 ^ 31 := by omega) : (x ≤ y → A) ∧ (¬ x ≤ y → B) := by
  subst hx hy
  rw [nI_leI ha hb]
  exact ⟨f, fun z => g (by omega)⟩
theorem pk_lt {x y : Int32} {A B : Prop} (a b : Nat) (f : a < b → A) (g : b ≤ a → B) (hx : x = nI a := by rfl) (hy : y = nI b := by rfl) (ha : a < 2 ^ 31 := by omega) (hb : b < 2 ^ 31 := by omega) : (x < y → A) ∧ (¬ x < y → B) := by
  subst hx hy
  rw [nI_ltI ha hb]
  exact ⟨f, fun z => g (by omega)⟩
theorem pk_eq {x y : Int32} {A B : Prop} (a b : Nat) (f : a = b → A) (g : a ≠ b → B) (hx : x = nI a := by rfl) (hy : y = nI b := by rfl) (ha : a < 2 ^ 31 := by omega) (hb : b < 2 ^ 31 := by omega) : (x = y → A) ∧ (¬ x = y → B) := by
  subst hx hy
  rw [nI_eq ha hb]
  exact ⟨f, g⟩
theorem pk_in {x : Int32} (n N : Nat) (h : n < N) (hx : x = nI n := by rfl) (hN : N < 2 ^ 31 := by omega) : vp_in x N := by
  subst hx
  exact vp_in_nI h hN
theorem pk_cl {x : Int32} (n : Nat) (hx : x = nI n := by rfl) (h : n < 2 ^ 31 := by omega) : x.toNatClampNeg = n := by
  subst hx
  exact nI_clamp h
theorem pk_tn {n : Nat} (h : n < 2 ^ 32) : (nI n).toBitVec.toNat = n := Nat.mod_eq_of_lt h
theorem pk_and (x : Int32) {m : Int32} (k : Nat) (hm : m.toBitVec.toNat = 2 ^ k - 1) : x &&& m = nI (x.toBitVec.toNat % 2 ^ k) := by
  apply Int32.toBitVec_inj.mp
  apply BitVec.eq_of_toNat_eq
  rw [Int32.toBitVec_and, BitVec.toNat_and, hm, Nat.and_two_pow_sub_one_eq_mod]
  show _ = (BitVec.ofNat 32 _).toNat
  rw [BitVec.toNat_ofNat]
  exact (Nat.mod_eq_of_lt (Nat.lt_of_le_of_lt (Nat.mod_le _ _) x.toBitVec.isLt)).symm
theorem pk_andN {n : Nat} (h : n < 2 ^ 32) {m : Int32} (k : Nat) (hm : m.toBitVec.toNat = 2 ^ k - 1) : nI n &&& m = nI (n % 2 ^ k) := by
  rw [pk_and _ k hm, pk_tn h]
def bt (x : Int32) (i : Nat) : Bool := x.toBitVec.getLsbD i
theorem b_ext {x y : Int32} (h : ∀ i, i < 32 → bt x i = bt y i) : x = y := Int32.toBitVec_inj.mp (BitVec.eq_of_getLsbD_eq (fun i hi => h i hi))
theorem b_or (x y : Int32) (i : Nat) : bt (x ||| y) i = (bt x i || bt y i) := by unfold bt; rw [Int32.toBitVec_or, BitVec.getLsbD_or]
theorem b_and (x y : Int32) (i : Nat) : bt (x &&& y) i = (bt x i && bt y i) := by unfold bt; rw [Int32.toBitVec_and, BitVec.getLsbD_and]
theorem b_big {x : Int32} {i : Nat} (h : 32 ≤ i) : bt x i = false := BitVec.getLsbD_of_ge _ _ h
theorem b_0 (i : Nat) : bt 0 i = false := BitVec.getLsbD_zero
theorem s_l : ∀ n, n < 32 → ((nI n &&& 31).toBitVec.smod 32).toNat = n := by decide +kernel
theorem b_shl (n : Nat) (hn : n < 32) (x : Int32) {i : Nat} (hi : i < 32) : bt (x <<< (nI n &&& 31)) i = (decide (n ≤ i) && bt x (i - n)) := by
  unfold bt
  rw [Int32.toBitVec_shiftLeft]
  show (x.toBitVec <<< ((nI n &&& 31).toBitVec.smod 32).toNat).getLsbD i = _
  rw [s_l n hn, BitVec.getLsbD_shiftLeft]
  rcases Nat.lt_or_ge i n with h | h
  · simp [h, Nat.not_le.mpr h]
  · simp [hi, h, Nat.not_lt.mpr h]
theorem b_sshr (n : Nat) (hn : n < 32) (x : Int32) {i : Nat} (hi : i < 32) : bt (x >>> (nI n &&& 31)) i = if n + i < 32 then bt x (n + i) else bt x 31 := by
  unfold bt
  rw [Int32.toBitVec_shiftRight]
  show (x.toBitVec.sshiftRight ((nI n &&& 31).toBitVec.smod 32).toNat).getLsbD i = _
  rw [s_l n hn, BitVec.getLsbD_sshiftRight, BitVec.msb_eq_getLsbD_last]
  simp [hi]
/-! ===== one bit of a mask ===== -/
theorem rb_one : ∀ i, i < 32 → bt 1 i = decide (i = 0) := by decide +kernel
theorem rb_bit (x : Int32) (t : Nat) (ht : t < 32) : ((x >>> (nI t &&& 31)) &&& 1) = if bt x t = true then 1 else 0 := by
  apply b_ext
  intro i hi
  rw [b_and, b_sshr t ht x hi, rb_one i hi]
  by_cases h0 : i = 0
  · subst h0
    rw [Nat.add_zero, if_pos ht]
    by_cases hb : bt x t = true
    · rw [if_pos hb, hb]; decide
    · rw [if_neg hb, Bool.eq_false_iff.mpr hb]; decide
  · have e : decide (i = 0) = false := decide_eq_false h0
    rw [e, Bool.and_false]
    by_cases hb : bt x t = true
    · rw [if_pos hb, rb_one i hi, e]
    · rw [if_neg hb, b_0]
theorem rb_set (x : Int32) (t : Nat) (ht : t < 32) (i : Nat) (hi : i < 32) : bt (x ||| ((1 : Int32) <<< (nI t &&& 31))) i = (bt x i || decide (i = t)) := by
  rw [b_or, b_shl t ht 1 hi, rb_one (i - t) (by omega)]
  have e : (decide (t ≤ i) && decide (i - t = 0)) = decide (i = t) := by
    rw [← Bool.decide_and]
    exact decide_eq_decide.mpr (by omega)
  rw [e]
/-! ===== counting ===== -/
def rc_n (f : Nat → Bool) : Nat → Nat
  | 0 => 0
  | n + 1 => rc_n f n + (if f n = true then 1 else 0)
theorem rc_le (f : Nat → Bool) : ∀ n, rc_n f n ≤ n
  | 0 => Nat.le_refl 0
  | n + 1 => by
    have h := rc_le f n
    show rc_n f n + (if f n = true then 1 else 0) ≤ n + 1
    split <;> omega
theorem rc_mono {f g : Nat → Bool} : ∀ n, (∀ i, i < n → f i = true → g i = true) → rc_n f n ≤ rc_n g n
  | 0, _ => Nat.le_refl 0
  | n + 1, h => by
    have h1 := rc_mono n (fun i hi => h i (by omega))
    have h2 := h n (by omega)
    show rc_n f n + (if f n = true then 1 else 0) ≤ rc_n g n + (if g n = true then 1 else 0)
    by_cases hf : f n = true
    · rw [if_pos hf, if_pos (h2 hf)]; omega
    · rw [if_neg hf]; omega
theorem rc_congr {f g : Nat → Bool} : ∀ n, (∀ i, i < n → f i = g i) → rc_n f n = rc_n g n
  | 0, _ => rfl
  | n + 1, h => by
    show rc_n f n + (if f n = true then 1 else 0) = rc_n g n + (if g n = true then 1 else 0)
    rw [rc_congr n (fun i hi => h i (by omega)), h n (by omega)]
theorem rc_eq {f g : Nat → Bool} : ∀ n, (∀ i, i < n → f i = true → g i = true) → rc_n g n ≤ rc_n f n → ∀ i, i < n → g i = true → f i = true
  | 0, _, _ => fun i hi => absurd hi (by omega)
  | n + 1, h, e => by
    have h1 := rc_mono n (fun i hi => h i (by omega) : ∀ i, i < n → f i = true → g i = true)
    have h2 := h n (by omega)
    have e' : rc_n g n + (if g n = true then 1 else 0) ≤ rc_n f n + (if f n = true then 1 else 0) := e
    intro i hi gi
    by_cases hf : f n = true
    · rw [if_pos hf, if_pos (h2 hf)] at e'
      by_cases hin : i = n
      · rw [hin]; exact hf
      · exact rc_eq n (fun i hi => h i (by omega)) (by omega) i (by omega) gi
    · rw [if_neg hf] at e'
      by_cases hg : g n = true
      · rw [if_pos hg] at e'; omega
      · rw [if_neg hg] at e'
        by_cases hin : i = n
        · rw [hin] at gi; exact absurd gi hg
        · exact rc_eq n (fun i hi => h i (by omega)) (by omega) i (by omega) gi
theorem rc_add {f g : Nat → Bool} {t : Nat} (hf : f t = false) (hg : g t = true) (he : ∀ i, i ≠ t → g i = f i) : ∀ n, t < n → rc_n g n = rc_n f n + 1
  | 0, ht => absurd ht (by omega)
  | n + 1, ht => by
    show rc_n g n + (if g n = true then 1 else 0) = rc_n f n + (if f n = true then 1 else 0) + 1
    by_cases hn : t = n
    · rw [rc_congr (f := g) (g := f) n (fun i hi => he i (by omega)), ← hn, if_pos hg, if_neg (by rw [hf]; decide)]
    · rw [rc_add hf hg he n (by omega), he n (by omega)]
      omega
theorem rc_two {f g h : Nat → Bool} : ∀ n, (∀ i, i < n → f i = true → g i = true → False) → (∀ i, i < n → f i = true → h i = true) → (∀ i, i < n → g i = true → h i = true) → rc_n f n + rc_n g n ≤ rc_n h n
  | 0, _, _, _ => Nat.le_refl 0
  | n + 1, a, b, c => by
    have h1 := rc_two n (fun i hi => a i (by omega)) (fun i hi => b i (by omega)) (fun i hi => c i (by omega))
    have a1 := a n (by omega)
    have b1 := b n (by omega)
    have c1 := c n (by omega)
    show rc_n f n + (if f n = true then 1 else 0) + (rc_n g n + (if g n = true then 1 else 0)) ≤ rc_n h n + (if h n = true then 1 else 0)
    by_cases hf : f n = true
    · rw [if_pos hf, if_pos (b1 hf), if_neg (fun z => a1 hf z)]; omega
    · rw [if_neg hf]
      by_cases hg : g n = true
      · rw [if_pos hg, if_pos (c1 hg)]; omega
      · rw [if_neg hg]; omega
theorem rc_zero {f : Nat → Bool} : ∀ n, (∀ i, i < n → f i = false) → rc_n f n = 0
  | 0, _ => rfl
  | n + 1, h => by
    show rc_n f n + (if f n = true then 1 else 0) = 0
    rw [rc_zero n (fun i hi => h i (by omega)), h n (by omega)]
    rfl
/-- the image of an injective map has as many members as the map has places -/
theorem rc_img {f : Nat → Nat} {N : Nat} : ∀ n, (∀ i, i < n → f i < N) → (∀ i j, i < j → j < n → f i ≠ f j) → ∀ h : Nat → Bool, (∀ t, t < N → (h t = true ↔ ∃ i, i < n ∧ f i = t)) → rc_n h N = n
  | 0, _, _ => fun h hh => rc_zero N (fun t ht => Bool.eq_false_iff.mpr (fun z => by
      obtain ⟨i, hi, _⟩ := (hh t ht).mp z
      omega))
  | n + 1, hb, hi => fun h hh => by
    have ih := rc_img n (fun i k => hb i (by omega)) (fun i j a b => hi i j a (by omega)) (fun t => h t && decide (t ≠ f n)) (by
      intro t ht
      rw [Bool.and_eq_true, decide_eq_true_iff, hh t ht]
      constructor
      · rintro ⟨⟨i, h1, h2⟩, h3⟩
        refine ⟨i, ?_, h2⟩
        by_cases e : i = n
        · rw [e] at h2; exact absurd h2.symm h3
        · omega
      · rintro ⟨i, h1, h2⟩
        exact ⟨⟨i, by omega, h2⟩, fun z => hi i n h1 (by omega) (h2.trans z)⟩)
    have hn := hb n (by omega)
    rw [rc_add (f := fun t => h t && decide (t ≠ f n)) (g := h) (t := f n) (by simp) ((hh _ hn).mpr ⟨n, by omega, rfl⟩) (by intro i hne; simp [hne]) N hn, ih]
theorem rc_ph {f : Nat → Nat} {N n : Nat} (hb : ∀ i, i < n → f i < N) (hi : ∀ i j, i < j → j < n → f i ≠ f j) : n ≤ N := by
  have h := rc_img n hb hi (fun t => (List.range n).any (fun i => decide (f i = t))) (by
    intro t _
    simp [List.any_eq_true])
  rw [← h]
  exact rc_le _ N
/-! ===== small ints ===== -/
theorem ri_cl {x : Int32} {n : Nat} (h : vp_in x n) (hn : n < 2 ^ 31) : x = nI x.toNatClampNeg ∧ x.toNatClampNeg < n := by
  obtain ⟨j, hj, rfl⟩ := vp_in_of h hn
  rw [nI_clamp (by omega)]
  exact ⟨rfl, hj⟩
theorem ri_inj {a b : Nat} (h : nI a = nI b) (ha : a < 2 ^ 31 := by omega) (hb : b < 2 ^ 31 := by omega) : a = b := (nI_eq ha hb).mp h
theorem ri_m1 (t : Nat) (h : t < 2 ^ 31 := by omega) : (-1 : Int32) ≠ nI t := by
  intro e
  have h0 := nI_pos' h
  rw [← e] at h0
  exact absurd h0 (by decide)
theorem ri_upd {f : Nat → Int32} {i j : Nat} {x y : Int32} (h : i ≠ j) : upd (upd f i x) j y = upd (upd f j y) i x := by
  funext k
  by_cases h1 : k = j
  · rw [h1, pk_us, pk_un (fun z => h z.symm), pk_us]
  · by_cases h2 : k = i
    · rw [h2, pk_us, pk_un h, pk_us]
    · rw [pk_un h1, pk_un h2, pk_un h2, pk_un h1]
theorem ri_ne {a b : Nat} (h : a ≠ b) (ha : a < 2 ^ 31 := by omega) (hb : b < 2 ^ 31 := by omega) : ¬ nI a = nI b := fun e => h (ri_inj e ha hb)
end
section
/-! ===== the graph: edges, closed sets ===== -/
def gr_E (first second : Nat → Int32) (b t : Nat) : Prop := first b = nI t ∨ second b = nI t
def gr_C (first second : Nat → Int32) (S : Nat → Prop) : Prop := S 0 ∧ ∀ b, b < 10 → S b → ∀ t, t < 10 → gr_E first second b t → S t
def gr_W (f : Nat → Int32) : Prop := ∀ b, b < 10 → f b = -1 ∨ ∃ t, t < 10 ∧ f b = nI t
/-! ===== the walk: what holds at its head ===== -/
def df_S (f : Nat → Int32) (m : Int32) (b : Nat) : Prop := ∀ t, t < 10 → f b = nI t → bt m t = true
def df_sm (sd : Nat → Int32) : Nat → Nat
  | 0 => 0
  | d + 1 => df_sm sd d + (sd d).toNatClampNeg
def df_I (first second : Nat → Int32) (l : Nat) (m : Int32) (d s : Nat) (o st sd : Nat → Int32) : Prop :=
  l ≤ 10 ∧
  (∀ i, i < d → vp_in (st i) 10) ∧
  (∀ p, l ≤ p → p < 10 → vp_in (o p) 10) ∧
  (∀ i j, i < j → j < d → st i ≠ st j) ∧
  (∀ p q, l ≤ p → p < q → q < 10 → o p ≠ o q) ∧
  (∀ i p, i < d → l ≤ p → p < 10 → st i ≠ o p) ∧
  (∀ t, t < 10 → (bt m t = true ↔ (∃ i, i < d ∧ st i = nI t) ∨ (∃ p, l ≤ p ∧ p < 10 ∧ o p = nI t))) ∧
  (∀ p, l ≤ p → p < 10 → df_S first m (o p).toNatClampNeg ∧ df_S second m (o p).toNatClampNeg) ∧
  (∀ i, i < d → ∃ k, k ≤ 2 ∧ sd i = nI k ∧ (1 ≤ k → df_S first m (st i).toNatClampNeg) ∧ (2 ≤ k → df_S second m (st i).toNatClampNeg)) ∧
  (∀ S, gr_C first second S → ∀ t, t < 10 → bt m t = true → S t) ∧
  (0 < d → st 0 = 0) ∧
  (d = 0 → l < 10 ∧ o l = 0) ∧
  s = 3 * (10 - l) + df_sm sd d
theorem df_sm_c {f g : Nat → Int32} : ∀ d, (∀ i, i < d → f i = g i) → df_sm f d = df_sm g d
  | 0, _ => rfl
  | d + 1, h => by
    show df_sm f d + (f d).toNatClampNeg = df_sm g d + (g d).toNatClampNeg
    rw [df_sm_c d (fun i hi => h i (by omega)), h d (by omega)]
theorem df_sm_b {f : Nat → Int32} : ∀ d, (∀ i, i < d → ∃ k, k ≤ 2 ∧ f i = nI k) → df_sm f d ≤ 2 * d
  | 0, _ => Nat.le_refl 0
  | d + 1, h => by
    have h1 := df_sm_b d (fun i hi => h i (by omega))
    obtain ⟨k, hk, e⟩ := h d (by omega)
    show df_sm f d + (f d).toNatClampNeg ≤ 2 * (d + 1)
    rw [e, nI_clamp (by omega)]
    omega
theorem df_sm_u {f : Nat → Int32} {i k : Nat} (hk : k ≤ 2) (e : f i = nI k) : ∀ d, i < d → df_sm (upd f i (nI (k + 1))) d = df_sm f d + 1
  | 0, h => absurd h (by omega)
  | d + 1, h => by
    show df_sm (upd f i (nI (k + 1))) d + (upd f i (nI (k + 1)) d).toNatClampNeg = df_sm f d + (f d).toNatClampNeg + 1
    by_cases hi : i = d
    · rw [df_sm_c (g := f) d (fun j hj => pk_un (by omega)), ← hi, pk_us, e, nI_clamp (by omega), nI_clamp (by omega)]
      omega
    · rw [df_sm_u hk e d (by omega), pk_un (fun z => hi z.symm)]
      omega
theorem df_dl {first second : Nat → Int32} {l d s : Nat} {m : Int32} {o st sd : Nat → Int32} (h : df_I first second l m d s o st sd) : d ≤ l := by
  obtain ⟨h1, h2, h3, h4, h5, h6, -⟩ := h
  have key := rc_ph (f := fun i => if i < d then (st i).toNatClampNeg else (o (l + (i - d))).toNatClampNeg) (N := 10) (n := d + (10 - l)) (by
    intro i hi
    show (if i < d then (st i).toNatClampNeg else (o (l + (i - d))).toNatClampNeg) < 10
    by_cases hd : i < d
    · rw [if_pos hd]; exact (ri_cl (h2 i hd) (by decide)).2
    · rw [if_neg hd]; exact (ri_cl (h3 (l + (i - d)) (by omega) (by omega)) (by decide)).2) (by
    intro i j hij hj
    show (if i < d then (st i).toNatClampNeg else (o (l + (i - d))).toNatClampNeg) ≠ (if j < d then (st j).toNatClampNeg else (o (l + (j - d))).toNatClampNeg)
    by_cases hi : i < d
    · rw [if_pos hi]
      by_cases hjd : j < d
      · rw [if_pos hjd]
        intro e
        apply h4 i j hij hjd
        rw [(ri_cl (h2 i hi) (by decide)).1, (ri_cl (h2 j hjd) (by decide)).1, e]
      · rw [if_neg hjd]
        intro e
        apply h6 i (l + (j - d)) hi (by omega) (by omega)
        rw [(ri_cl (h2 i hi) (by decide)).1, (ri_cl (h3 (l + (j - d)) (by omega) (by omega)) (by decide)).1, e]
    · rw [if_neg hi, if_neg (by omega)]
      intro e
      apply h5 (l + (i - d)) (l + (j - d)) (by omega) (by omega) (by omega)
      rw [(ri_cl (h3 (l + (i - d)) (by omega) (by omega)) (by decide)).1, (ri_cl (h3 (l + (j - d)) (by omega) (by omega)) (by decide)).1, e])
  omega
theorem df_s30 {first second : Nat → Int32} {l d s : Nat} {m : Int32} {o st sd : Nat → Int32} (h : df_I first second l m d s o st sd) : s ≤ 30 := by
  have hd := df_dl h
  obtain ⟨h1, h2, h3, h4, h5, h6, h7, h8, h9, h10, h11, h12, h13⟩ := h
  have hb := df_sm_b (f := sd) d (fun i hi => by
    obtain ⟨k, hk, e, _⟩ := h9 i hi
    exact ⟨k, hk, e⟩)
  omega
/-- a side of a block on the stack is done -/
theorem df_adv {first second : Nat → Int32} {l d s : Nat} {m : Int32} {o st sd : Nat → Int32} {i k : Nat} (h : df_I first second l m d s o st sd) (hi : i < d) (hk : sd i = nI k) (hk2 : k < 2) (hf : k = 0 → df_S first m (st i).toNatClampNeg) (hs : k = 1 → df_S second m (st i).toNatClampNeg) : df_I first second l m d (s + 1) o st (upd sd i (nI (k + 1))) := by
  obtain ⟨h1, h2, h3, h4, h5, h6, h7, h8, h9, h10, h11, h12, h13⟩ := h
  refine ⟨h1, h2, h3, h4, h5, h6, h7, h8, ?_, h10, h11, h12, ?_⟩
  · intro j hj
    obtain ⟨k', a, b, c, e⟩ := h9 j hj
    by_cases hji : j = i
    · subst hji
      have ek : k' = k := ri_inj (b.symm.trans hk)
      subst ek
      refine ⟨k' + 1, by omega, pk_us, fun _ => ?_, fun z => hs (by omega)⟩
      by_cases hz : k' = 0
      · exact hf hz
      · exact c (by omega)
    · exact ⟨k', a, by rw [pk_un hji]; exact b, c, e⟩
  · rw [df_sm_u (by omega) hk d hi]
    omega
/-- a new block goes onto the stack -/
theorem df_push {first second : Nat → Int32} {l d s : Nat} {m : Int32} {o st sd : Nat → Int32} {t : Nat} (h : df_I first second l m d s o st sd) (hd : 0 < d) (ht : t < 10) (hm : bt m t = false) (hr : ∀ S, gr_C first second S → S t) : df_I first second l (m ||| ((1 : Int32) <<< (nI t &&& 31))) (d + 1) s o (upd st d (nI t)) (upd sd d 0) := by
  obtain ⟨h1, h2, h3, h4, h5, h6, h7, h8, h9, h10, h11, h12, h13⟩ := h
  have hset : ∀ i, i < 10 → bt (m ||| ((1 : Int32) <<< (nI t &&& 31))) i = (bt m i || decide (i = t)) := fun i hi => rb_set m t (by omega) i (by omega)
  have up : ∀ i, i < 10 → bt m i = true → bt (m ||| ((1 : Int32) <<< (nI t &&& 31))) i = true := by
    intro i hi e
    rw [hset i hi, e]
    rfl
  have upS : ∀ (f : Nat → Int32) (b : Nat), df_S f m b → df_S f (m ||| ((1 : Int32) <<< (nI t &&& 31))) b := fun f b z i hi e => up i hi (z i hi e)
  have nst : ∀ i, i < d → st i ≠ nI t := by
    intro i hi e
    have z := (h7 t ht).mpr (Or.inl ⟨i, hi, e⟩)
    rw [hm] at z
    exact absurd z (by decide)
  have no : ∀ p, l ≤ p → p < 10 → o p ≠ nI t := by
    intro p hp hp2 e
    have z := (h7 t ht).mpr (Or.inr ⟨p, hp, hp2, e⟩)
    rw [hm] at z
    exact absurd z (by decide)
  refine ⟨h1, ?_, h3, ?_, h5, ?_, ?_, ?_, ?_, ?_, ?_, ?_, ?_⟩
  · intro i hi
    by_cases e : i = d
    · rw [e, pk_us]; exact vp_in_nI ht (by decide)
    · rw [pk_un e]; exact h2 i (by omega)
  · intro i j hij hj
    by_cases e : j = d
    · rw [e, pk_us, pk_un (by omega)]; exact nst i (by omega)
    · rw [pk_un (by omega), pk_un e]; exact h4 i j hij (by omega)
  · intro i p hi hp hp2
    by_cases e : i = d
    · rw [e, pk_us]; exact fun z => no p hp hp2 z.symm
    · rw [pk_un e]; exact h6 i p (by omega) hp hp2
  · intro i hi
    rw [hset i hi, Bool.or_eq_true, decide_eq_true_iff, h7 i hi]
    constructor
    · rintro ((⟨j, hj, e⟩ | z) | z)
      · exact Or.inl ⟨j, by omega, by rw [pk_un (by omega)]; exact e⟩
      · exact Or.inr z
      · exact Or.inl ⟨d, by omega, by rw [pk_us, z]⟩
    · rintro (⟨j, hj, e⟩ | z)
      · by_cases hjd : j = d
        · rw [hjd, pk_us] at e
          exact Or.inr (ri_inj e).symm
        · rw [pk_un hjd] at e
          exact Or.inl (Or.inl ⟨j, by omega, e⟩)
      · exact Or.inl (Or.inr z)
  · intro p hp hp2
    exact ⟨upS _ _ (h8 p hp hp2).1, upS _ _ (h8 p hp hp2).2⟩
  · intro i hi
    by_cases e : i = d
    · refine ⟨0, by omega, by rw [e, pk_us]; rfl, fun z => absurd z (by omega), fun z => absurd z (by omega)⟩
    · obtain ⟨k, a, b, c, e2⟩ := h9 i (by omega)
      rw [pk_un e, pk_un e]
      exact ⟨k, a, b, fun z => upS _ _ (c z), fun z => upS _ _ (e2 z)⟩
  · intro S hS i hi e
    rw [hset i hi, Bool.or_eq_true, decide_eq_true_iff] at e
    rcases e with e | e
    · exact h10 S hS i hi e
    · rw [e]; exact hr S hS
  · intro _
    rw [pk_un (by omega)]
    exact h11 hd
  · intro z
    omega
  · show s = 3 * (10 - l) + (df_sm (upd sd d 0) d + (upd sd d 0 d).toNatClampNeg)
    rw [df_sm_c (g := sd) d (fun j hj => pk_un (by omega)), pk_us, h13]
    rfl
/-- a block leaves the stack and gets the next place from the back -/
theorem df_pop {first second : Nat → Int32} {l d s : Nat} {m x : Int32} {o st sd : Nat → Int32} (h : df_I first second (l + 1) m (d + 1) s o st sd) (h2 : sd d = nI 2) : df_I first second l m d (s + 1) (upd o l (st d)) st (upd sd d x) := by
  obtain ⟨h1, g2, h3, h4, h5, h6, h7, h8, h9, h10, h11, h12, h13⟩ := h
  refine ⟨by omega, fun i hi => g2 i (by omega), ?_, fun i j a b => h4 i j a (by omega), ?_, ?_, ?_, ?_, ?_, h10, fun z => h11 (by omega), ?_, ?_⟩
  · intro p hp hp2
    by_cases e : p = l
    · rw [e, pk_us]; exact g2 d (by omega)
    · rw [pk_un e]; exact h3 p (by omega) hp2
  · intro p q hp hpq hq
    by_cases e : p = l
    · rw [e, pk_us, pk_un (by omega)]; exact h6 d q (by omega) (by omega) hq
    · rw [pk_un e, pk_un (by omega)]; exact h5 p q (by omega) hpq hq
  · intro i p hi hp hp2
    by_cases e : p = l
    · rw [e, pk_us]; exact h4 i d hi (by omega)
    · rw [pk_un e]; exact h6 i p (by omega) (by omega) hp2
  · intro t ht
    rw [h7 t ht]
    constructor
    · rintro (⟨i, hi, e⟩ | ⟨p, hp, hp2, e⟩)
      · by_cases hid : i = d
        · exact Or.inr ⟨l, by omega, by omega, by rw [pk_us, ← hid]; exact e⟩
        · exact Or.inl ⟨i, by omega, e⟩
      · exact Or.inr ⟨p, by omega, hp2, by rw [pk_un (by omega)]; exact e⟩
    · rintro (⟨i, hi, e⟩ | ⟨p, hp, hp2, e⟩)
      · exact Or.inl ⟨i, by omega, e⟩
      · by_cases hpl : p = l
        · rw [hpl, pk_us] at e
          exact Or.inl ⟨d, by omega, e⟩
        · rw [pk_un hpl] at e
          exact Or.inr ⟨p, by omega, hp2, e⟩
  · intro p hp hp2
    by_cases e : p = l
    · rw [e, pk_us]
      obtain ⟨k, a, b, c, e2⟩ := h9 d (by omega)
      have ek : k = 2 := ri_inj (b.symm.trans h2)
      exact ⟨c (by omega), e2 (by omega)⟩
    · rw [pk_un e]; exact h8 p (by omega) hp2
  · intro i hi
    rw [pk_un (by omega)]
    exact h9 i (by omega)
  · intro z
    refine ⟨by omega, ?_⟩
    rw [pk_us, z]
    exact h11 (by omega)
  · have e : df_sm sd (d + 1) = df_sm sd d + (sd d).toNatClampNeg := rfl
    rw [e, h2, nI_clamp (by omega)] at h13
    rw [df_sm_c (g := sd) d (fun j hj => pk_un (by omega))]
    omega
theorem df_0 {first second o st sd : Nat → Int32} : df_I first second 10 1 1 0 o (upd st 0 0) (upd sd 0 0) := by
  refine ⟨by omega, ?_, ?_, ?_, ?_, ?_, ?_, ?_, ?_, ?_, ?_, ?_, ?_⟩
  · intro i hi
    rw [show i = 0 by omega, pk_us]
    exact vp_in_nI (n := 0) (by omega) (by decide)
  · intro p hp hp2
    omega
  · intro i j a b
    omega
  · intro p q a b c
    omega
  · intro i p a b c
    omega
  · intro t ht
    rw [rb_one t (by omega), decide_eq_true_iff]
    constructor
    · intro e
      exact Or.inl ⟨0, by omega, by rw [pk_us, e]; rfl⟩
    · rintro (⟨i, hi, e⟩ | ⟨p, hp, hp2, e⟩)
      · rw [show i = 0 by omega, pk_us] at e
        exact (ri_inj (a := 0) e).symm
      · omega
  · intro p hp hp2
    omega
  · intro i hi
    exact ⟨0, by omega, by rw [show i = 0 by omega, pk_us]; rfl, fun z => absurd z (by omega), fun z => absurd z (by omega)⟩
  · intro S hS t ht e
    rw [rb_one t (by omega), decide_eq_true_iff] at e
    rw [e]
    exact hS.1
  · intro _
    exact pk_us
  · intro z
    omega
  · show 0 = 3 * (10 - 10) + (0 + (upd sd 0 0 0).toNatClampNeg)
    rw [pk_us]
    rfl
end
section
/-! ===== the walk of orderBlocks ===== -/
/-- what the order is: places and blocks, one to one; closed under edges; in every closed set -/
def od_F (first second : Nat → Int32) (c : Nat) (o pl : Nat → Int32) : Prop :=
  1 ≤ c ∧ c ≤ 10 ∧
  (∀ p, p < c → vp_in (o p) 10) ∧
  (∀ p, p < c → pl (o p).toNatClampNeg = nI p) ∧
  o 0 = 0 ∧
  (∀ p, p < c → ∀ t, t < 10 → gr_E first second (o p).toNatClampNeg t → ∃ q, q < c ∧ o q = nI t) ∧
  (∀ S, gr_C first second S → ∀ p, p < c → S (o p).toNatClampNeg)
section
variable {f_ready f_count f_loops f_length f_label f_entered f_ended f_written : Int32} {a_size a_op a_target a_operand a_test a_first a_second a_order a_place a_walkStack a_walkSide a_from a_to a_word a_with a_loopStart a_var a_seen a_lastOut : Nat → Int32}
theorem or_120 {post : SX → Prop} {J : Int32 → Int32 → Int32 → Int32 → (Nat → Int32) → (Nat → Int32) → (Nat → Int32) → (Nat → Int32) → (Nat → Int32) → (Nat → Int32) → (Nat → Int32) → (Nat → Int32) → (Nat → Int32) → (Nat → Int32) → (Nat → Int32) → (Nat → Int32) → (Nat → Int32) → (Nat → Int32) → (Nat → Int32) → (Nat → Int32) → (Nat → Int32) → (Nat → Int32) → (Nat → Int32) → Prop} {l d s k : Nat} {m z0 : Int32} {sd : Nat → Int32} (hI : df_I a_first a_second l m (d + 1) s a_order a_walkStack sd) (hk : k ≤ 2) (hsd : sd d = nI k) (hz : (k = 0 → z0 = a_first (a_walkStack d).toNatClampNeg) ∧ (k = 1 → z0 = a_second (a_walkStack d).toNatClampNeg)) (hWf : gr_W a_first) (hWs : gr_W a_second) (hJ : ∀ (l' : Nat) (m' : Int32) (d' : Nat) (o' st' sd' : Nat → Int32), df_I a_first a_second l' m' d' (s + 1) o' st' sd' → J (nI l') m' (nI d') (nI (s + 1)) a_size a_op a_target a_operand a_test a_first a_second o' a_place st' sd' a_from a_to a_word a_with a_loopStart a_var a_seen a_lastOut) : wX_orderBlocks_120 post J (nI l) m (nI (d + 1)) (nI s) (a_walkStack d) (nI k) z0 f_ready f_count f_loops f_length f_label f_entered f_ended f_written a_size a_op a_target a_operand a_test a_first a_second a_order a_place a_walkStack (upd sd d (nI (k + 1))) a_from a_to a_word a_with a_loopStart a_var a_seen a_lastOut := by
  have hs := df_s30 hI
  have hdl := df_dl hI
  have hI' := hI
  obtain ⟨h1, h2, h3, h4, h5, h6, h7, h8, h9, h10, h11, h12, h13⟩ := hI'
  obtain ⟨eb, hb10⟩ := ri_cl (h2 d (by omega)) (by decide)
  by_cases hk2 : k = 2
  · subst hk2
    obtain ⟨l', rfl⟩ : ∃ l', l = l' + 1 := ⟨l - 1, by omega⟩
    refine br_t rfl (nm_r (pk_m1 l') ⟨pk_in l' 10 (by omega), nm_r (e' := upd a_order l' (a_walkStack d)) (by rw [nI_clamp (by omega)]) (nm_r (pk_m1 d) (nm_r (nI_1 s) ?_))⟩)
    exact hJ l' m d _ _ _ (df_pop hI hsd)
  · have hzS : ∀ (m' : Int32) (st' : Nat → Int32), st' d = a_walkStack d → (∀ t, t < 10 → z0 = nI t → bt m' t = true) → (k = 0 → df_S a_first m' (st' d).toNatClampNeg) ∧ (k = 1 → df_S a_second m' (st' d).toNatClampNeg) := by
      intro m' st' es H
      rw [es]
      exact ⟨fun z t ht e => H t ht ((hz.1 z).trans e), fun z t ht e => H t ht ((hz.2 z).trans e)⟩
    have hz0 : z0 = -1 ∨ ∃ t, t < 10 ∧ z0 = nI t := by
      by_cases h0 : k = 0
      · rw [hz.1 h0]; exact hWf _ hb10
      · rw [hz.2 (by omega)]; exact hWs _ hb10
    refine br_f (ri_ne (b := 2) hk2) ?_
    rcases hz0 with e | ⟨t, ht, e⟩
    · have hh := hzS m a_walkStack rfl (fun t ht z => absurd (e.symm.trans z) (ri_m1 t))
      refine br_t (by rw [e]; decide) (nm_r (nI_1 s) ?_)
      exact hJ _ _ _ _ _ _ (df_adv hI (by omega) hsd (by omega) hh.1 hh.2)
    · refine br_f (by rw [e]; exact nI_pos (by omega)) ?_
      rw [e]
      by_cases hb : bt m t = true
      · have hh := hzS m a_walkStack rfl (fun t' ht' z => by
          have et : t = t' := ri_inj (e.symm.trans z)
          rw [← et]
          exact hb)
        refine br_f (by rw [rb_bit m t (by omega), if_pos hb]; decide) (nm_r (nI_1 s) ?_)
        exact hJ _ _ _ _ _ _ (df_adv hI (by omega) hsd (by omega) hh.1 hh.2)
      · have hh := hzS (m ||| ((1 : Int32) <<< (nI t &&& 31))) (upd a_walkStack (d + 1) (nI t)) (pk_un (by omega)) (fun t' ht' z => by
          have et : t = t' := ri_inj (e.symm.trans z)
          rw [rb_set m t (by omega) t' (by omega), et]
          simp)
        have hr : ∀ S, gr_C a_first a_second S → S t := by
          intro S hS
          have hSb : S (a_walkStack d).toNatClampNeg := h10 S hS _ hb10 ((h7 _ hb10).mpr (Or.inl ⟨d, by omega, eb⟩))
          refine hS.2 _ hb10 hSb t ht ?_
          by_cases h0 : k = 0
          · exact Or.inl ((hz.1 h0).symm.trans e)
          · exact Or.inr ((hz.2 (by omega)).symm.trans e)
        refine br_t (by rw [rb_bit m t (by omega), if_neg hb]) (nm_e ⟨pk_in (d + 1) 11 (by omega), nm_r (e' := upd a_walkStack (d + 1) (nI t)) (by rw [nI_clamp (by omega)]) ⟨pk_in (d + 1) 11 (by omega), nm_r (e' := upd (upd sd d (nI (k + 1))) (d + 1) 0) (by rw [nI_clamp (by omega)]) (nm_r (nI_1 (d + 1)) (nm_r (nI_1 s) ?_))⟩⟩)
        rw [ri_upd (by omega)]
        exact hJ _ _ _ _ _ _ (df_adv (df_push hI (by omega) ht (Bool.eq_false_iff.mpr hb) hr) (i := d) (by omega) (by rw [pk_un (by omega)]; exact hsd) (by omega) hh.1 hh.2)
theorem or_45 {post : SX → Prop} (hWf : gr_W a_first) (hWs : gr_W a_second) (hx : ∀ (l : Nat) (m : Int32) (s : Nat) (o st sd : Nat → Int32), df_I a_first a_second l m 0 s o st sd → ∃ n201 : Nat, wX_orderBlocks_201 post (nI l) f_ready (10 - nI l) f_loops f_length f_label f_entered f_ended f_written n201 0 a_size a_op a_target a_operand a_test a_first a_second o a_place st sd a_from a_to a_word a_with a_loopStart a_var a_seen a_lastOut) : ∀ (n s l : Nat) (m : Int32) (d : Nat) (o st sd : Nat → Int32), n + s = 41 → df_I a_first a_second l m d s o st sd → wX_orderBlocks_45 post f_ready f_count f_loops f_length f_label f_entered f_ended f_written n (nI l) m (nI d) (nI s) a_size a_op a_target a_operand a_test a_first a_second o a_place st sd a_from a_to a_word a_with a_loopStart a_var a_seen a_lastOut := by
  intro n
  induction n with
  | zero =>
    intro s l m d o st sd hn hI
    have := df_s30 hI
    omega
  | succ n ih =>
    intro s l m d o st sd hn hI
    have hs := df_s30 hI
    have hdl := df_dl hI
    have h1 : l ≤ 10 := hI.1
    refine br_f (nI_ge (b := 40) (by omega) (by decide)) ?_
    by_cases hd : d = 0
    · subst hd
      exact br_t (nI_le (a := 0) (b := 0) (by omega) (by omega)) (nm_e (hx l m s o st sd hI))
    · obtain ⟨d', rfl⟩ : ∃ d', d = d' + 1 := ⟨d - 1, by omega⟩
      have e1 : nI (d' + 1) - 1 = nI d' := nI_pred d'
      have e2 : (nI (d' + 1) - 1).toNatClampNeg = d' := by rw [e1, nI_clamp (by omega)]
      have hb : vp_in (st d') 10 := hI.2.1 d' (by omega)
      obtain ⟨k, hk, hsd, _⟩ := hI.2.2.2.2.2.2.2.2.1 d' (by omega)
      refine br_f (nI_nle (by omega) (by omega)) ⟨pk_in d' 11 (by omega) e1, nm_r (e' := st d') (by rw [e2]) ⟨pk_in d' 11 (by omega) e1, nm_r (e' := nI k) (by rw [e2, hsd]) ⟨pk_in d' 11 (by omega) e1, pk_in d' 11 (by omega) e1, nm_r (e' := upd sd d' (nI (k + 1))) (by rw [e2, hsd, nI_1]) ?_⟩⟩⟩
      have go : ∀ z0 : Int32, (k = 0 → z0 = a_first (st d').toNatClampNeg) ∧ (k = 1 → z0 = a_second (st d').toNatClampNeg) → wX_orderBlocks_120 post (wX_orderBlocks_45 post f_ready f_count f_loops f_length f_label f_entered f_ended f_written n) (nI l) m (nI (d' + 1)) (nI s) (st d') (nI k) z0 f_ready f_count f_loops f_length f_label f_entered f_ended f_written a_size a_op a_target a_operand a_test a_first a_second o a_place st (upd sd d' (nI (k + 1))) a_from a_to a_word a_with a_loopStart a_var a_seen a_lastOut :=
        fun z0 hz => or_120 hI hk hsd hz hWf hWs (fun l' m' d2 o' st' sd' h' => ih (s + 1) l' m' d2 o' st' sd' (by omega) h')
      by_cases hk0 : k = 0
      · subst hk0
        exact br_t rfl ⟨hb, go _ ⟨fun _ => rfl, fun z => absurd z (by omega)⟩⟩
      · by_cases hk1 : k = 1
        · subst hk1
          exact br_f (ri_ne (a := 1) (b := 0) (by omega)) (br_t rfl ⟨hb, go _ ⟨fun z => absurd z (by omega), fun _ => rfl⟩⟩)
        · have hk2 : k = 2 := by omega
          subst hk2
          exact br_f (ri_ne (a := 2) (b := 0) (by omega)) (br_f (ri_ne (a := 2) (b := 1) (by omega)) (go _ ⟨fun z => absurd z (by omega), fun z => absurd z (by omega)⟩))
theorem or_201 {post : SX → Prop} {o0 : Nat → Int32} {l c : Nat} (hl : l + c = 10) (hv : ∀ p, l ≤ p → p < 10 → vp_in (o0 p) 10) (hi : ∀ p q, l ≤ p → p < q → q < 10 → o0 p ≠ o0 q) (h : ∀ o pl : Nat → Int32, (∀ q, q < c → o q = o0 (l + q)) → (∀ q, q < c → pl (o0 (l + q)).toNatClampNeg = nI q) → post (f_ready, nI c, f_loops, f_length, f_label, f_entered, f_ended, f_written, a_size, a_op, a_target, a_operand, a_test, a_first, a_second, o, pl, a_walkStack, a_walkSide, a_from, a_to, a_word, a_with, a_loopStart, a_var, a_seen, a_lastOut)) : ∀ (n p : Nat) (o pl : Nat → Int32), n + p = c + 1 → p ≤ c → (∀ q, q < p → o q = o0 (l + q)) → (∀ q, p ≤ q → o q = o0 q) → (∀ q, q < p → pl (o0 (l + q)).toNatClampNeg = nI q) → wX_orderBlocks_201 post (nI l) f_ready (nI c) f_loops f_length f_label f_entered f_ended f_written n (nI p) a_size a_op a_target a_operand a_test a_first a_second o pl a_walkStack a_walkSide a_from a_to a_word a_with a_loopStart a_var a_seen a_lastOut := by
  intro n
  induction n with
  | zero =>
    intro p o pl hn hp
    omega
  | succ n ih =>
    intro p o pl hn hp ho ho2 hpl
    by_cases hpc : p = c
    · subst hpc
      exact br_t (nI_le (by omega) (by omega)) (h o pl ho hpl)
    · have hvp := hv (l + p) (by omega) (by omega)
      refine br_f (nI_ge (by omega) (by omega)) ⟨pk_in (l + p) 10 (by omega) (nI_add l p), pk_in p 10 (by omega), nm_r (e' := upd o p (o0 (l + p))) (by rw [nI_add, nI_clamp (by omega), nI_clamp (by omega), ho2 (l + p) (by omega)]) ⟨pk_in p 10 (by omega), ?_, nm_r (e' := upd pl (o0 (l + p)).toNatClampNeg (nI p)) (by rw [nI_clamp (by omega), pk_us]) (nm_r (nI_1 p) ?_)⟩⟩
      · rw [nI_clamp (by omega), pk_us]
        exact hvp
      · refine ih (p + 1) _ _ (by omega) (by omega) ?_ ?_ ?_
        · intro q hq
          by_cases e : q = p
          · rw [e, pk_us]
          · rw [pk_un e]; exact ho q (by omega)
        · intro q hq
          rw [pk_un (by omega)]
          exact ho2 q (by omega)
        · intro q hq
          by_cases e : q = p
          · rw [e, pk_us]
          · rw [pk_un (fun z => by
              have hvq := hv (l + q) (by omega) (by omega)
              apply hi (l + q) (l + p) (by omega) (by omega) (by omega)
              rw [(ri_cl hvq (by decide)).1, z]
              exact (ri_cl hvp (by decide)).1.symm)]
            exact hpl q (by omega)
theorem or_x {post : SX → Prop} {l s : Nat} {m : Int32} {o st sd : Nat → Int32} (h : ∀ (c : Nat) (o pl st sd : Nat → Int32), od_F a_first a_second c o pl → post (f_ready, nI c, f_loops, f_length, f_label, f_entered, f_ended, f_written, a_size, a_op, a_target, a_operand, a_test, a_first, a_second, o, pl, st, sd, a_from, a_to, a_word, a_with, a_loopStart, a_var, a_seen, a_lastOut)) (hI : df_I a_first a_second l m 0 s o st sd) : ∃ n201 : Nat, wX_orderBlocks_201 post (nI l) f_ready (10 - nI l) f_loops f_length f_label f_entered f_ended f_written n201 0 a_size a_op a_target a_operand a_test a_first a_second o a_place st sd a_from a_to a_word a_with a_loopStart a_var a_seen a_lastOut := by
  obtain ⟨h1, h2, h3, h4, h5, h6, h7, h8, h9, h10, h11, h12, h13⟩ := hI
  obtain ⟨hl, ho0⟩ := h12 rfl
  obtain ⟨c, hc⟩ : ∃ c, l + c = 10 := ⟨10 - l, by omega⟩
  have ec : (10 : Int32) - nI l = nI c := by
    show nI 10 - nI l = nI c
    rw [pk_sub (by omega)]
    exact congrArg nI (by omega)
  rw [ec]
  refine ⟨c + 1, or_201 hc h3 h5 ?_ (c + 1) 0 o a_place (by omega) (by omega) (fun q hq => absurd hq (by omega)) (fun q _ => rfl) (fun q hq => absurd hq (by omega))⟩
  intro o' pl' ho' hpl'
  apply h
  refine ⟨by omega, by omega, ?_, ?_, ?_, ?_, ?_⟩
  · intro p hp
    rw [ho' p hp]
    exact h3 _ (by omega) (by omega)
  · intro p hp
    rw [ho' p hp]
    exact hpl' p hp
  · rw [ho' 0 (by omega)]
    exact ho0
  · intro p hp t ht hE
    rw [ho' p hp] at hE
    have hS := h8 (l + p) (by omega) (by omega)
    have hb : bt m t = true := by
      rcases hE with e | e
      · exact hS.1 t ht e
      · exact hS.2 t ht e
    rcases (h7 t ht).mp hb with ⟨i, hi, _⟩ | ⟨p', hp', hp2, e⟩
    · omega
    · refine ⟨p' - l, by omega, ?_⟩
      rw [ho' _ (by omega), show l + (p' - l) = p' by omega]
      exact e
  · intro S hS p hp
    rw [ho' p hp]
    obtain ⟨e, hb⟩ := ri_cl (h3 (l + p) (by omega) (by omega)) (by decide)
    exact h10 S hS _ hb ((h7 _ hb).mpr (Or.inr ⟨l + p, by omega, by omega, e⟩))
theorem or_2 {post : SX → Prop} (hWf : gr_W a_first) (hWs : gr_W a_second) (h : ∀ (c : Nat) (o pl st sd : Nat → Int32), od_F a_first a_second c o pl → post (f_ready, nI c, f_loops, f_length, f_label, f_entered, f_ended, f_written, a_size, a_op, a_target, a_operand, a_test, a_first, a_second, o, pl, st, sd, a_from, a_to, a_word, a_with, a_loopStart, a_var, a_seen, a_lastOut)) : ∀ (n b : Nat) (pl : Nat → Int32), n + b = 11 → b ≤ 10 → wX_orderBlocks_2 post f_ready f_count f_loops f_length f_label f_entered f_ended f_written n (nI b) a_size a_op a_target a_operand a_test a_first a_second a_order pl a_walkStack a_walkSide a_from a_to a_word a_with a_loopStart a_var a_seen a_lastOut := by
  intro n
  induction n with
  | zero =>
    intro b pl hn hb
    omega
  | succ n ih =>
    intro b pl hn hb
    by_cases hb10 : b = 10
    · subst hb10
      refine br_t (nI_le (a := 10) (by omega) (by decide)) (nm_e (nm_e ⟨41, ?_⟩))
      exact or_45 hWf hWs (fun l m s o st sd hI => or_x h hI) 41 0 10 1 1 a_order _ _ (by omega) df_0
    · refine br_f (nI_ge (b := 10) (by omega) (by decide)) ⟨pk_in b 10 (by omega), nm_e (nm_r (nI_1 b) ?_)⟩
      exact ih (b + 1) _ (by omega) (by omega)
theorem or_wp {post : SX → Prop} (hWf : gr_W a_first) (hWs : gr_W a_second) (h : ∀ (c : Nat) (o pl st sd : Nat → Int32), od_F a_first a_second c o pl → post (f_ready, nI c, f_loops, f_length, f_label, f_entered, f_ended, f_written, a_size, a_op, a_target, a_operand, a_test, a_first, a_second, o, pl, st, sd, a_from, a_to, a_word, a_with, a_loopStart, a_var, a_seen, a_lastOut)) : wpX_orderBlocks post (f_ready, f_count, f_loops, f_length, f_label, f_entered, f_ended, f_written, a_size, a_op, a_target, a_operand, a_test, a_first, a_second, a_order, a_place, a_walkStack, a_walkSide, a_from, a_to, a_word, a_with, a_loopStart, a_var, a_seen, a_lastOut) :=
  Exists.intro 11 (or_2 hWf hWs h 11 0 a_place (by omega) (by omega))
end
end
section
/-! ===== loops as stretches of places ===== -/
def lo_F (c L : Nat) (fr to : Nat → Int32) : Prop :=
  (∀ l, l < L → ∃ a b, a ≤ b ∧ b < c ∧ fr l = nI a ∧ to l = nI b) ∧ (∀ i j, i < j → j < L → fr i ≠ fr j)
/-- some loop begins at a and reaches b -/
def lo_C (L : Nat) (fr to : Nat → Int32) (a b : Nat) : Prop := ∃ l, l < L ∧ fr l = nI a ∧ ∃ e, b ≤ e ∧ e < 10 ∧ to l = nI e
theorem lo_le {c L : Nat} {fr to : Nat → Int32} (h : lo_F c L fr to) (hc : c ≤ 10) : L ≤ 10 := by
  have key := rc_ph (f := fun l => (fr l).toNatClampNeg) (N := c) (n := L) (by
    intro l hl
    obtain ⟨a, b, h1, h2, h3, _⟩ := h.1 l hl
    show (fr l).toNatClampNeg < c
    rw [h3, nI_clamp (by omega)]
    omega) (by
    intro i j hij hj
    obtain ⟨a, b, h1, h2, h3, _⟩ := h.1 i (by omega)
    obtain ⟨a', b', h1', h2', h3', _⟩ := h.1 j hj
    show (fr i).toNatClampNeg ≠ (fr j).toNatClampNeg
    have hne := h.2 i j hij hj
    rw [h3, h3'] at hne
    rw [h3, h3', nI_clamp (by omega), nI_clamp (by omega)]
    exact fun z => hne (by rw [z]))
  omega
theorem lo_new {c L a b : Nat} {fr to : Nat → Int32} (h : lo_F c L fr to) (hab : a ≤ b) (hb : b < c) (hn : ∀ i, i < L → fr i ≠ nI a) : lo_F c (L + 1) (upd fr L (nI a)) (upd to L (nI b)) := by
  constructor
  · intro l hl
    by_cases e : l = L
    · rw [e, pk_us, pk_us]
      exact ⟨a, b, hab, hb, rfl, rfl⟩
    · rw [pk_un e, pk_un e]
      exact h.1 l (by omega)
  · intro i j hij hj
    by_cases e : j = L
    · rw [e, pk_us, pk_un (by omega)]
      exact hn i (by omega)
    · rw [pk_un (by omega), pk_un e]
      exact h.2 i j hij (by omega)
theorem lo_newC {L a b : Nat} {fr to : Nat → Int32} {x y : Int32} (h : lo_C L fr to a b) : lo_C (L + 1) (upd fr L x) (upd to L y) a b := by
  obtain ⟨l, hl, h1, e, h2, h3, h4⟩ := h
  exact ⟨l, by omega, by rw [pk_un (by omega)]; exact h1, e, h2, h3, by rw [pk_un (by omega)]; exact h4⟩
theorem lo_grow {c L l e0 e : Nat} {fr to : Nat → Int32} (h : lo_F c L fr to) (hc : c ≤ 10) (hl : l < L) (h0 : to l = nI e0) (he0 : e0 < c) (he : e0 ≤ e) (hec : e < c) : lo_F c L fr (upd to l (nI e)) := by
  refine ⟨?_, h.2⟩
  intro k hk
  obtain ⟨a, b, h1, h2, h3, h4⟩ := h.1 k hk
  by_cases ek : k = l
  · subst ek
    have eb : b = e0 := ri_inj (h4.symm.trans h0)
    exact ⟨a, e, by omega, hec, h3, pk_us⟩
  · exact ⟨a, b, h1, h2, h3, by rw [pk_un ek]; exact h4⟩
theorem lo_growC {L l e0 e a b : Nat} {fr to : Nat → Int32} (h : lo_C L fr to a b) (h0 : to l = nI e0) (he0 : e0 < 10) (he : e0 ≤ e) (hec : e < 10) : lo_C L fr (upd to l (nI e)) a b := by
  obtain ⟨k, hk, h1, e1, h2, h3, h4⟩ := h
  by_cases ek : k = l
  · subst ek
    have eb : e1 = e0 := ri_inj (h4.symm.trans h0)
    exact ⟨k, hk, h1, e, by omega, hec, pk_us⟩
  · exact ⟨k, hk, h1, e1, h2, h3, by rw [pk_un ek]; exact h4⟩
def fl_1 (f pl : Nat → Int32) (C : Nat → Nat → Prop) (b p : Nat) : Prop := ∀ t, t < 10 → f b = nI t → ∀ q, q < 10 → pl t = nI q → q ≤ p → C q p
/-- jumps that go back from places below p are covered -/
def fl_B (first second o pl : Nat → Int32) (C : Nat → Nat → Prop) (p : Nat) : Prop := ∀ p', p' < p → fl_1 first pl C (o p').toNatClampNeg p' ∧ fl_1 second pl C (o p').toNatClampNeg p'
theorem fl_1m {f pl : Nat → Int32} {C C' : Nat → Nat → Prop} {b p : Nat} (hm : ∀ a b, C a b → C' a b) (h : fl_1 f pl C b p) : fl_1 f pl C' b p := fun t ht e q hq e2 hqp => hm _ _ (h t ht e q hq e2 hqp)
theorem fl_Bm {first second o pl : Nat → Int32} {C C' : Nat → Nat → Prop} {p : Nat} (hm : ∀ a b, C a b → C' a b) (h : fl_B first second o pl C p) : fl_B first second o pl C' p := fun p' hp => ⟨fl_1m hm (h p' hp).1, fl_1m hm (h p' hp).2⟩
theorem fl_Bs {first second o pl : Nat → Int32} {C : Nat → Nat → Prop} {p : Nat} (h : fl_B first second o pl C p) (h1 : fl_1 first pl C (o p).toNatClampNeg p) (h2 : fl_1 second pl C (o p).toNatClampNeg p) : fl_B first second o pl C (p + 1) := by
  intro p' hp
  by_cases e : p' = p
  · rw [e]; exact ⟨h1, h2⟩
  · exact h p' (by omega)
section
variable {f_ready f_count f_loops f_length f_label f_entered f_ended f_written : Int32} {a_size a_op a_target a_operand a_test a_first a_second a_order a_place a_walkStack a_walkSide a_from a_to a_word a_with a_loopStart a_var a_seen a_lastOut : Nat → Int32}
theorem al_2 {post : SX → Prop} {c L a b : Nat} (hc : c ≤ 10) (hF : lo_F c L a_from a_to) (hab : a ≤ b) (hb : b < c) (h : ∀ (L' : Nat) (fr' to' : Nat → Int32), lo_F c L' fr' to' → lo_C L' fr' to' a b → (∀ a' b', lo_C L a_from a_to a' b' → lo_C L' fr' to' a' b') → post (f_ready, f_count, nI L', f_length, f_label, f_entered, f_ended, f_written, a_size, a_op, a_target, a_operand, a_test, a_first, a_second, a_order, a_place, a_walkStack, a_walkSide, fr', to', a_word, a_with, a_loopStart, a_var, a_seen, a_lastOut)) : ∀ n l : Nat, n + l = L + 1 → l ≤ L → (∀ i, i < l → a_from i ≠ nI a) → wX_addLoop_2 post (nI a) (nI b) f_ready f_count (nI L) f_length f_label f_entered f_ended f_written a_size a_op a_target a_operand a_test a_first a_second a_order a_place a_walkStack a_walkSide a_from a_to a_word a_with a_loopStart a_var a_seen a_lastOut n (nI l) := by
  have hL := lo_le hF hc
  intro n
  induction n with
  | zero =>
    intro l hn hl
    omega
  | succ n ih =>
    intro l hn hl hne
    by_cases hlL : l = L
    · subst hlL
      refine br_t (nI_le (by omega) (by omega)) ⟨pk_in l 20 (by omega), nm_r (e' := upd a_from l (nI a)) (by rw [nI_clamp (by omega)]) ⟨pk_in l 20 (by omega), nm_r (e' := upd a_to l (nI b)) (by rw [nI_clamp (by omega)]) (nm_r (nI_1 l) ?_)⟩⟩
      exact h (l + 1) _ _ (lo_new hF hab hb hne) ⟨l, by omega, pk_us, b, by omega, by omega, pk_us⟩ (fun a' b' z => lo_newC z)
    · obtain ⟨x, e, hxe, hec, efr, eto⟩ := hF.1 l (by omega)
      refine br_f (nI_ge (by omega) (by omega)) ⟨pk_in l 20 (by omega), ?_⟩
      rw [nI_clamp (n := l) (by omega)]
      by_cases hx : a_from l = nI a
      · refine br_t hx ⟨pk_in l 20 (by omega), pk_le b e (fun hbe => ?_) (fun hbe => ?_) rfl eto⟩
        · exact h L a_from a_to hF ⟨l, by omega, hx, e, hbe, by omega, eto⟩ (fun _ _ z => z)
        · refine ⟨pk_in l 20 (by omega), nm_e ?_⟩
          exact h L a_from _ (lo_grow hF hc (by omega) eto hec (by omega) hb) ⟨l, by omega, hx, b, by omega, by omega, pk_us⟩ (fun a' b' z => lo_growC z eto (by omega) (by omega) (by omega))
      · refine br_f hx (nm_r (nI_1 l) (ih (l + 1) (by omega) (by omega) ?_))
        intro i hi
        by_cases e2 : i = l
        · rw [e2]; exact hx
        · exact hne i (by omega)
theorem al_wp {post : SX → Prop} {c L a b : Nat} (hc : c ≤ 10) (hF : lo_F c L a_from a_to) (hab : a ≤ b) (hb : b < c) (h : ∀ (L' : Nat) (fr' to' : Nat → Int32), lo_F c L' fr' to' → lo_C L' fr' to' a b → (∀ a' b', lo_C L a_from a_to a' b' → lo_C L' fr' to' a' b') → post (f_ready, f_count, nI L', f_length, f_label, f_entered, f_ended, f_written, a_size, a_op, a_target, a_operand, a_test, a_first, a_second, a_order, a_place, a_walkStack, a_walkSide, fr', to', a_word, a_with, a_loopStart, a_var, a_seen, a_lastOut)) : wpX_addLoop post (f_ready, f_count, nI L, f_length, f_label, f_entered, f_ended, f_written, a_size, a_op, a_target, a_operand, a_test, a_first, a_second, a_order, a_place, a_walkStack, a_walkSide, a_from, a_to, a_word, a_with, a_loopStart, a_var, a_seen, a_lastOut) (nI a) (nI b) :=
  Exists.intro (L + 1) (al_2 hc hF hab hb h (L + 1) 0 (by omega) (by omega) (fun i hi => absurd hi (by omega)))
/-- one edge of findLoops -/
theorem fl_e {A : Prop} {Q : SX → Prop} {x : Int32} {f : Nat → Int32} {b p c L : Nat} (hc : c ≤ 10) (hF : lo_F c L a_from a_to) (hp : p < c) (hx : x = f b) (hw : x = -1 ∨ ∃ t, t < 10 ∧ x = nI t ∧ ∃ q, q < c ∧ a_place t = nI q) (hA : fl_1 f a_place (lo_C L a_from a_to) b p → A) (hQ : ∀ (L' : Nat) (fr' to' : Nat → Int32), lo_F c L' fr' to' → fl_1 f a_place (lo_C L' fr' to') b p → (∀ a' b', lo_C L a_from a_to a' b' → lo_C L' fr' to' a' b') → Q (f_ready, f_count, nI L', f_length, f_label, f_entered, f_ended, f_written, a_size, a_op, a_target, a_operand, a_test, a_first, a_second, a_order, a_place, a_walkStack, a_walkSide, fr', to', a_word, a_with, a_loopStart, a_var, a_seen, a_lastOut)) : (x < 0 → A) ∧ (¬ x < 0 → (vp_in x 10 ∧ ((nI p < a_place x.toNatClampNeg → A) ∧ (¬ nI p < a_place x.toNatClampNeg → (vp_in x 10 ∧ wpX_addLoop Q (f_ready, f_count, nI L, f_length, f_label, f_entered, f_ended, f_written, a_size, a_op, a_target, a_operand, a_test, a_first, a_second, a_order, a_place, a_walkStack, a_walkSide, a_from, a_to, a_word, a_with, a_loopStart, a_var, a_seen, a_lastOut) (a_place x.toNatClampNeg) (nI p)))))) := by
  rcases hw with e | ⟨t, ht, e, q, hq, eq⟩
  · refine br_t (by rw [e]; decide) (hA ?_)
    intro t ht e2
    exact absurd ((e.symm.trans hx).trans e2) (ri_m1 t)
  · subst e
    refine br_f (nI_pos (by omega)) ⟨pk_in t 10 ht, ?_⟩
    rw [nI_clamp (n := t) (by omega), eq]
    have ut : ∀ t', t' < 10 → f b = nI t' → ∀ q', q' < 10 → a_place t' = nI q' → q' = q := by
      intro t' ht' e2 q' hq' e3
      have et : t = t' := ri_inj (hx.trans e2)
      subst et
      exact ri_inj (e3.symm.trans eq)
    refine pk_lt p q (fun hpq => hA ?_) (fun hqp => ⟨pk_in t 10 ht, al_wp hc hF hqp hp ?_⟩)
    · intro t' ht' e2 q' hq' e3 hle
      have := ut t' ht' e2 q' hq' e3
      omega
    · intro L' fr' to' hF' hC hm
      refine hQ L' fr' to' hF' ?_ hm
      intro t' ht' e2 q' hq' e3 hle
      rw [ut t' ht' e2 q' hq' e3]
      exact hC
theorem fl_w {f : Nat → Int32} {c p : Nat} (hW : gr_W f) (hO : od_F a_first a_second c a_order a_place) (hp : p < c) (hE : ∀ b t, f b = nI t → gr_E a_first a_second b t) : f (a_order p).toNatClampNeg = -1 ∨ ∃ t, t < 10 ∧ f (a_order p).toNatClampNeg = nI t ∧ ∃ q, q < c ∧ a_place t = nI q := by
  obtain ⟨h1, h2, h3, h4, h5, h6, h7⟩ := hO
  rcases hW _ (ri_cl (h3 p hp) (by decide)).2 with e | ⟨t, ht, e⟩
  · exact Or.inl e
  · obtain ⟨q, hq, eq⟩ := h6 p hp t ht (hE _ _ e)
    have e4 := h4 q hq
    rw [eq, nI_clamp (by omega)] at e4
    exact Or.inr ⟨t, ht, e, q, hq, e4⟩
theorem fl_7 {post : SX → Prop} {c : Nat} (hWf : gr_W a_first) (hWs : gr_W a_second) (hO : od_F a_first a_second c a_order a_place) (h : ∀ (L : Nat) (fr to : Nat → Int32), lo_F c L fr to → fl_B a_first a_second a_order a_place (lo_C L fr to) c → post (f_ready, nI c, nI L, f_length, f_label, f_entered, f_ended, f_written, a_size, a_op, a_target, a_operand, a_test, a_first, a_second, a_order, a_place, a_walkStack, a_walkSide, fr, to, a_word, a_with, a_loopStart, a_var, a_seen, a_lastOut)) : ∀ (n p L : Nat) (fr to : Nat → Int32), n + p = c + 1 → p ≤ c → lo_F c L fr to → fl_B a_first a_second a_order a_place (lo_C L fr to) p → wX_findLoops_7 post n (nI p) f_ready (nI c) (nI L) f_length f_label f_entered f_ended f_written a_size a_op a_target a_operand a_test a_first a_second a_order a_place a_walkStack a_walkSide fr to a_word a_with a_loopStart a_var a_seen a_lastOut := by
  have hc : c ≤ 10 := hO.2.1
  intro n
  induction n with
  | zero =>
    intro p L fr to hn hp
    omega
  | succ n ih =>
    intro p L fr to hn hp hF hB
    by_cases hpc : p = c
    · subst hpc
      exact br_t (nI_le (by omega) (by omega)) (h L fr to hF hB)
    · have hp' : p < c := by omega
      have hv : vp_in (a_order (nI p).toNatClampNeg) 10 := by rw [nI_clamp (by omega)]; exact hO.2.2.1 p hp'
      refine br_f (nI_ge (by omega) (by omega)) ⟨pk_in p 10 (by omega), hv, nm_r (e' := a_first (a_order p).toNatClampNeg) (by rw [nI_clamp (by omega)]) ⟨pk_in p 10 (by omega), hv, nm_r (e' := a_second (a_order p).toNatClampNeg) (by rw [nI_clamp (by omega)]) ?_⟩⟩
      have go : ∀ (L1 : Nat) (fr1 to1 : Nat → Int32), lo_F c L1 fr1 to1 → fl_B a_first a_second a_order a_place (lo_C L1 fr1 to1) p → fl_1 a_first a_place (lo_C L1 fr1 to1) (a_order p).toNatClampNeg p → wX_findLoops_64 post (wX_findLoops_7 post n) (nI p) (a_second (a_order p).toNatClampNeg) f_ready (nI c) (nI L1) f_length f_label f_entered f_ended f_written a_size a_op a_target a_operand a_test a_first a_second a_order a_place a_walkStack a_walkSide fr1 to1 a_word a_with a_loopStart a_var a_seen a_lastOut := by
        intro L1 fr1 to1 hF1 hB1 h1
        refine fl_e (f := a_second) hc hF1 hp' rfl (fl_w hWs hO hp' (fun b t e => Or.inr e)) (fun h2 => nm_r (nI_1 p) ?_) (fun L' fr' to' hF' h2 hm => nm_r (nI_1 p) ?_)
        · exact ih (p + 1) L1 fr1 to1 (by omega) (by omega) hF1 (fl_Bs hB1 h1 h2)
        · exact ih (p + 1) L' fr' to' (by omega) (by omega) hF' (fl_Bs (fl_Bm hm hB1) (fl_1m hm h1) h2)
      refine fl_e (f := a_first) hc hF hp' rfl (fl_w hWf hO hp' (fun b t e => Or.inl e)) (fun h2 => ?_) (fun L' fr' to' hF' h2 hm => ?_)
      · exact go L fr to hF hB h2
      · exact go L' fr' to' hF' (fl_Bm hm hB) h2
theorem fl_wp {post : SX → Prop} {c : Nat} (hWf : gr_W a_first) (hWs : gr_W a_second) (hO : od_F a_first a_second c a_order a_place) (h : ∀ (L : Nat) (fr to : Nat → Int32), lo_F c L fr to → fl_B a_first a_second a_order a_place (lo_C L fr to) c → post (f_ready, nI c, nI L, f_length, f_label, f_entered, f_ended, f_written, a_size, a_op, a_target, a_operand, a_test, a_first, a_second, a_order, a_place, a_walkStack, a_walkSide, fr, to, a_word, a_with, a_loopStart, a_var, a_seen, a_lastOut)) : wpX_findLoops post (f_ready, nI c, f_loops, f_length, f_label, f_entered, f_ended, f_written, a_size, a_op, a_target, a_operand, a_test, a_first, a_second, a_order, a_place, a_walkStack, a_walkSide, a_from, a_to, a_word, a_with, a_loopStart, a_var, a_seen, a_lastOut) :=
  Exists.intro (c + 1) (fl_7 hWf hWs hO h (c + 1) 0 0 a_from a_to (by omega) (by omega) ⟨fun l hl => absurd hl (by omega), fun i j _ hj => absurd hj (by omega)⟩ (fun p hp => absurd hp (by omega)))
/-! ===== widening keeps all that is needed ===== -/
theorem wd_14 {post : Int32 → SX → Prop} {J : Int32 → Int32 → (Nat → Int32) → (Nat → Int32) → (Nat → Int32) → (Nat → Int32) → (Nat → Int32) → (Nat → Int32) → (Nat → Int32) → (Nat → Int32) → (Nat → Int32) → (Nat → Int32) → (Nat → Int32) → (Nat → Int32) → (Nat → Int32) → (Nat → Int32) → (Nat → Int32) → (Nat → Int32) → (Nat → Int32) → (Nat → Int32) → (Nat → Int32) → Prop} {c L a : Nat} {C0 : Nat → Nat → Prop} (hc : c ≤ 10) (ha : a < L) (hL : L ≤ 10) (hJ : ∀ (x : Int32) (to : Nat → Int32), (x = 0 ∨ x = 1) → lo_F c L a_from to → (∀ a b, C0 a b → lo_C L a_from to a b) → J x (nI (a + 1)) a_size a_op a_target a_operand a_test a_first a_second a_order a_place a_walkStack a_walkSide a_from to a_word a_with a_loopStart a_var a_seen a_lastOut) : ∀ (n b : Nat) (x : Int32) (to : Nat → Int32), n + b = L + 1 → b ≤ L → (x = 0 ∨ x = 1) → lo_F c L a_from to → (∀ a b, C0 a b → lo_C L a_from to a b) → wX_widenOnce_14 post J (nI a) f_ready f_count (nI L) f_length f_label f_entered f_ended f_written n x (nI b) a_size a_op a_target a_operand a_test a_first a_second a_order a_place a_walkStack a_walkSide a_from to a_word a_with a_loopStart a_var a_seen a_lastOut := by
  intro n
  induction n with
  | zero =>
    intro b x to hn hb
    omega
  | succ n ih =>
    intro b x to hn hb hx hF hC
    by_cases hbL : b = L
    · subst hbL
      exact br_t (nI_le (by omega) (by omega)) (nm_r (nI_1 a) (hJ x to hx hF hC))
    · obtain ⟨fa, ea, h1, h2, h3, h4⟩ := hF.1 a ha
      obtain ⟨fb, eb, g1, g2, g3, g4⟩ := hF.1 b (by omega)
      have ia : vp_in (nI a) 20 := pk_in a 20 (by omega)
      have ib : vp_in (nI b) 20 := pk_in b 20 (by omega)
      have skip := ih (b + 1) x to (by omega) (by omega) hx hF hC
      refine br_f (nI_ge (by omega) (by omega)) ⟨ia, ib, br_c (fun _ => nm_r (nI_1 b) skip) (fun _ => ⟨ib, ia, br_c (fun _ => nm_r (nI_1 b) skip) (fun _ => ⟨ia, ib, br_c (fun _ => nm_r (nI_1 b) skip) (fun hlt => ⟨ib, ia, nm_r (e' := upd to a (nI eb)) (by rw [nI_clamp (by omega), nI_clamp (by omega), g4]) (nm_r (nI_1 b) ?_)⟩)⟩)⟩)⟩
      rw [nI_clamp (by omega), nI_clamp (by omega), g4, h4, nI_leI (by omega) (by omega)] at hlt
      exact ih (b + 1) 1 _ (by omega) (by omega) (Or.inr rfl) (lo_grow hF hc ha h4 h2 (by omega) g2) (fun a' b' z => lo_growC (hC a' b' z) h4 (by omega) (by omega) (by omega))
theorem wd_4 {post : Int32 → SX → Prop} {c L : Nat} {C0 : Nat → Nat → Prop} (hc : c ≤ 10) (hL : L ≤ 10) (h : ∀ (x : Int32) (to : Nat → Int32), (x = 0 ∨ x = 1) → lo_F c L a_from to → (∀ a b, C0 a b → lo_C L a_from to a b) → post x (f_ready, f_count, nI L, f_length, f_label, f_entered, f_ended, f_written, a_size, a_op, a_target, a_operand, a_test, a_first, a_second, a_order, a_place, a_walkStack, a_walkSide, a_from, to, a_word, a_with, a_loopStart, a_var, a_seen, a_lastOut)) : ∀ (n a : Nat) (x : Int32) (to : Nat → Int32), n + a = L + 1 → a ≤ L → (x = 0 ∨ x = 1) → lo_F c L a_from to → (∀ a b, C0 a b → lo_C L a_from to a b) → wX_widenOnce_4 post f_ready f_count (nI L) f_length f_label f_entered f_ended f_written n x (nI a) a_size a_op a_target a_operand a_test a_first a_second a_order a_place a_walkStack a_walkSide a_from to a_word a_with a_loopStart a_var a_seen a_lastOut := by
  intro n
  induction n with
  | zero =>
    intro a x to hn ha
    omega
  | succ n ih =>
    intro a x to hn ha hx hF hC
    by_cases haL : a = L
    · subst haL
      refine br_t (nI_le (by omega) (by omega)) ⟨?_, h x to hx hF hC⟩
      rcases hx with e | e
      · rw [e]; rfl
      · rw [e]; rfl
    · refine br_f (nI_ge (by omega) (by omega)) ⟨L + 1, ?_⟩
      exact wd_14 (C0 := C0) hc (by omega) hL (fun x' to' hx' hF' hC' => ih (a + 1) x' to' (by omega) (by omega) hx' hF' hC') (L + 1) 0 x to (by omega) (by omega) hx hF hC
theorem wd_wp {post : Int32 → SX → Prop} {c L : Nat} {C0 : Nat → Nat → Prop} (hc : c ≤ 10) (hF : lo_F c L a_from a_to) (hC : ∀ a b, C0 a b → lo_C L a_from a_to a b) (h : ∀ (x : Int32) (to : Nat → Int32), lo_F c L a_from to → (∀ a b, C0 a b → lo_C L a_from to a b) → post x (f_ready, f_count, nI L, f_length, f_label, f_entered, f_ended, f_written, a_size, a_op, a_target, a_operand, a_test, a_first, a_second, a_order, a_place, a_walkStack, a_walkSide, a_from, to, a_word, a_with, a_loopStart, a_var, a_seen, a_lastOut)) : wpX_widenOnce post (f_ready, f_count, nI L, f_length, f_label, f_entered, f_ended, f_written, a_size, a_op, a_target, a_operand, a_test, a_first, a_second, a_order, a_place, a_walkStack, a_walkSide, a_from, a_to, a_word, a_with, a_loopStart, a_var, a_seen, a_lastOut) :=
  Exists.intro (L + 1) (wd_4 (C0 := C0) hc (lo_le hF hc) (fun x to _ hF' hC' => h x to hF' hC') (L + 1) 0 0 a_to (by omega) (by omega) (Or.inl rfl) hF hC)
end
end
section
/-! ===== the structured code: P places are laid, St: loops begun, Dn: loops ended; cp: where a place's word lies ===== -/
def em_K (P L len : Nat) (fr to wd wt ls : Nat → Int32) (cp : Nat → Nat) (St Dn : Nat → Prop) : Prop :=
  (∀ p q, p < q → q < P → cp p < cp q) ∧
  (∀ q, q < P → cp q < len ∧ wd (cp q) = 1 ∧ wt (cp q) = nI q) ∧
  (∀ i, i < len → wd i = 0 ∨ (wd i = 1 ∧ ∃ q, q < P ∧ wt i = nI q ∧ cp q = i) ∨ (wd i = 2 ∧ ∃ l, l < L ∧ wt i = nI l ∧ ∃ e, e < P ∧ to l = nI e ∧ ∀ q, q < P → i < cp q → e < q)) ∧
  (∀ l, l < L → St l → ∃ s, ls l = nI s ∧ s + 1 ≤ len ∧ ∀ a, a < 10 → fr l = nI a → ∀ q, q < P → a ≤ q → s + 1 ≤ cp q) ∧
  (∀ l, l < L → Dn l → ∃ r, r < len ∧ wd r = 2 ∧ wt r = nI l ∧ ∃ e, e < P ∧ to l = nI e ∧ ∀ q, q ≤ e → cp q < r)
theorem em_w {P L len : Nat} {fr to wd wt ls : Nat → Int32} {cp : Nat → Nat} {St Dn St' Dn' : Nat → Prop} (h : em_K P L len fr to wd wt ls cp St Dn) (hs : ∀ l, l < L → St' l → St l) (hd : ∀ l, l < L → Dn' l → Dn l) : em_K P L len fr to wd wt ls cp St' Dn' :=
  ⟨h.1, h.2.1, h.2.2.1, fun l hl z => h.2.2.2.1 l hl (hs l hl z), fun l hl z => h.2.2.2.2 l hl (hd l hl z)⟩
theorem em_loop {P L len l : Nat} {fr to wd wt ls : Nat → Int32} {cp : Nat → Nat} {St Dn : Nat → Prop} (h : em_K P L len fr to wd wt ls cp St Dn) (hP : P < 10) (hl : l < L) (hf : fr l = nI P) : em_K P L (len + 1) fr to (upd wd len 0) (upd wt len (nI l)) (upd ls l (nI len)) cp (fun l' => St l' ∨ l' = l) Dn := by
  obtain ⟨h0, h1, h2, h3, h4⟩ := h
  refine ⟨h0, ?_, ?_, ?_, ?_⟩
  · intro q hq
    obtain ⟨a, b, c⟩ := h1 q hq
    exact ⟨by omega, by rw [pk_un (by omega)]; exact b, by rw [pk_un (by omega)]; exact c⟩
  · intro i hi
    by_cases e : i = len
    · exact Or.inl (by rw [e, pk_us])
    · rw [pk_un e, pk_un e]
      exact h2 i (by omega)
  · intro k hk z
    by_cases e : k = l
    · subst e
      refine ⟨len, pk_us, by omega, ?_⟩
      intro a ha ea q hq haq
      have : P = a := ri_inj (hf.symm.trans ea)
      omega
    · rcases z with z | z
      · obtain ⟨s, a, b, c⟩ := h3 k hk z
        exact ⟨s, by rw [pk_un e]; exact a, by omega, c⟩
      · exact absurd z e
  · intro k hk z
    obtain ⟨r, a, b, c, d⟩ := h4 k hk z
    exact ⟨r, by omega, by rw [pk_un (by omega)]; exact b, by rw [pk_un (by omega)]; exact c, d⟩
theorem em_code {P L len : Nat} {fr to wd wt ls : Nat → Int32} {cp : Nat → Nat} {St Dn : Nat → Prop} (h : em_K P L len fr to wd wt ls cp St Dn) : em_K (P + 1) L (len + 1) fr to (upd wd len 1) (upd wt len (nI P)) ls (fun q => if q = P then len else cp q) St Dn := by
  obtain ⟨h0, h1, h2, h3, h4⟩ := h
  have cP : (fun q => if q = P then len else cp q) P = len := if_pos rfl
  have cn : ∀ q, q < P → (fun q => if q = P then len else cp q) q = cp q := fun q hq => if_neg (by omega)
  generalize (fun q => if q = P then len else cp q) = cp' at cP cn
  refine ⟨?_, ?_, ?_, ?_, ?_⟩
  · intro p q hpq hq
    rw [cn p (by omega)]
    by_cases e : q = P
    · rw [e, cP]; exact (h1 p (by omega)).1
    · rw [cn q (by omega)]; exact h0 p q hpq (by omega)
  · intro q hq
    by_cases e : q = P
    · rw [e, cP, pk_us, pk_us]; exact ⟨by omega, rfl, rfl⟩
    · rw [cn q (by omega)]
      obtain ⟨a, b, c⟩ := h1 q (by omega)
      exact ⟨by omega, by rw [pk_un (by omega)]; exact b, by rw [pk_un (by omega)]; exact c⟩
  · intro i hi
    by_cases e : i = len
    · exact Or.inr (Or.inl ⟨by rw [e, pk_us], P, by omega, by rw [e, pk_us], by rw [e, cP]⟩)
    · rw [pk_un e, pk_un e]
      rcases h2 i (by omega) with z | ⟨a, q, b, c, d⟩ | ⟨a, l, b, c, e', d, f, g⟩
      · exact Or.inl z
      · exact Or.inr (Or.inl ⟨a, q, by omega, c, by rw [cn q b]; exact d⟩)
      · refine Or.inr (Or.inr ⟨a, l, b, c, e', by omega, f, ?_⟩)
        intro q hq hiq
        by_cases eq : q = P
        · omega
        · rw [cn q (by omega)] at hiq
          exact g q (by omega) hiq
  · intro l hl z
    obtain ⟨s, a, b, c⟩ := h3 l hl z
    refine ⟨s, a, by omega, ?_⟩
    intro x hx ex q hq hxq
    by_cases eq : q = P
    · rw [eq, cP]; exact b
    · rw [cn q (by omega)]; exact c x hx ex q (by omega) hxq
  · intro l hl z
    obtain ⟨r, a, b, c, e', d, f, g⟩ := h4 l hl z
    refine ⟨r, by omega, by rw [pk_un (by omega)]; exact b, by rw [pk_un (by omega)]; exact c, e', by omega, f, ?_⟩
    intro q hq
    rw [cn q (by omega)]
    exact g q hq
theorem em_rep {p L len l : Nat} {fr to wd wt ls : Nat → Int32} {cp : Nat → Nat} {St Dn : Nat → Prop} (h : em_K (p + 1) L len fr to wd wt ls cp St Dn) (hl : l < L) (ht : to l = nI p) : em_K (p + 1) L (len + 1) fr to (upd wd len 2) (upd wt len (nI l)) ls cp St (fun l' => Dn l' ∨ l' = l) := by
  obtain ⟨h0, h1, h2, h3, h4⟩ := h
  refine ⟨h0, ?_, ?_, ?_, ?_⟩
  · intro q hq
    obtain ⟨a, b, c⟩ := h1 q hq
    exact ⟨by omega, by rw [pk_un (by omega)]; exact b, by rw [pk_un (by omega)]; exact c⟩
  · intro i hi
    by_cases e : i = len
    · refine Or.inr (Or.inr ⟨by rw [e, pk_us], l, hl, by rw [e, pk_us], p, by omega, ht, ?_⟩)
      intro q hq hiq
      have := (h1 q hq).1
      omega
    · rw [pk_un e, pk_un e]
      exact h2 i (by omega)
  · intro k hk z
    obtain ⟨s, a, b, c⟩ := h3 k hk z
    exact ⟨s, a, by omega, c⟩
  · intro k hk z
    by_cases e : k = l
    · subst e
      exact ⟨len, by omega, pk_us, pk_us, p, by omega, ht, fun q hq => (h1 q (by omega)).1⟩
    · rcases z with z | z
      · obtain ⟨r, a, b, c, d⟩ := h4 k hk z
        exact ⟨r, by omega, by rw [pk_un (by omega)]; exact b, by rw [pk_un (by omega)]; exact c, d⟩
      · exact absurd z e
/-! ===== counts: how many words ===== -/
def em_f (f : Nat → Int32) (p : Nat) : Nat → Bool := fun l => decide ((f l).toNatClampNeg < p)
def em_fe (f : Nat → Int32) (p : Nat) : Nat → Bool := fun l => decide ((f l).toNatClampNeg = p)
def em_te (fr to : Nat → Int32) (p d : Nat) : Nat → Bool := fun l => decide ((to l).toNatClampNeg = p ∧ d ≤ (fr l).toNatClampNeg)
def em_tf (fr to : Nat → Int32) (p d : Nat) : Nat → Bool := fun l => decide ((to l).toNatClampNeg = p ∧ (fr l).toNatClampNeg = d)
theorem em_c1 (f : Nat → Int32) (p L : Nat) : rc_n (em_f f p) L + rc_n (em_fe f p) L ≤ rc_n (em_f f (p + 1)) L := by
  apply rc_two
  · intro i _ a b
    have a' := of_decide_eq_true a
    have b' := of_decide_eq_true b
    omega
  · intro i _ a
    have a' := of_decide_eq_true a
    exact decide_eq_true (by omega)
  · intro i _ a
    have a' := of_decide_eq_true a
    exact decide_eq_true (by omega)
theorem em_c2 (fr to : Nat → Int32) (p L : Nat) : rc_n (em_f to p) L + rc_n (em_te fr to p 0) L ≤ rc_n (em_f to (p + 1)) L := by
  apply rc_two
  · intro i _ a b
    have a' := of_decide_eq_true a
    have b' := of_decide_eq_true b
    omega
  · intro i _ a
    have a' := of_decide_eq_true a
    exact decide_eq_true (by omega)
  · intro i _ a
    have a' := of_decide_eq_true a
    exact decide_eq_true (by omega)
theorem em_c3 (fr to : Nat → Int32) (p d L : Nat) : rc_n (em_te fr to p (d + 1)) L + rc_n (em_tf fr to p d) L ≤ rc_n (em_te fr to p d) L := by
  apply rc_two
  · intro i _ a b
    have a' := of_decide_eq_true a
    have b' := of_decide_eq_true b
    omega
  · intro i _ a
    have a' := of_decide_eq_true a
    exact decide_eq_true (by omega)
  · intro i _ a
    have a' := of_decide_eq_true a
    exact decide_eq_true (by omega)
theorem em_s {f : Nat → Bool} {n : Nat} (h : f n = true) : rc_n f (n + 1) = rc_n f n + 1 := by
  show rc_n f n + (if f n = true then 1 else 0) = _
  rw [if_pos h]
theorem em_s' (f : Nat → Bool) (n : Nat) : rc_n f n ≤ rc_n f (n + 1) := by
  show rc_n f n ≤ rc_n f n + (if f n = true then 1 else 0)
  omega
def em_pm : Nat → Int32
  | 0 => -1
  | d + 1 => nI d
theorem em_pms : ∀ d, nI d + (-1) = em_pm d
  | 0 => by decide
  | d + 1 => pk_m1 d
/-! ===== the walk of emit ===== -/
section
variable {f_ready f_count f_loops f_length f_label f_entered f_ended f_written : Int32} {a_size a_op a_target a_operand a_test a_first a_second a_order a_place a_walkStack a_walkSide a_from a_to a_word a_with a_loopStart a_var a_seen a_lastOut : Nat → Int32}
theorem em_put {post : SX → Prop} {len : Nat} {w x : Int32} (h : len < 64) (hp : post (f_ready, f_count, f_loops, nI (len + 1), f_label, f_entered, f_ended, f_written, a_size, a_op, a_target, a_operand, a_test, a_first, a_second, a_order, a_place, a_walkStack, a_walkSide, a_from, a_to, upd a_word len w, upd a_with len x, a_loopStart, a_var, a_seen, a_lastOut)) : wpX_put post (f_ready, f_count, f_loops, nI len, f_label, f_entered, f_ended, f_written, a_size, a_op, a_target, a_operand, a_test, a_first, a_second, a_order, a_place, a_walkStack, a_walkSide, a_from, a_to, a_word, a_with, a_loopStart, a_var, a_seen, a_lastOut) w x :=
  br_t (nI_lt (b := 64) h (by decide)) ⟨pk_in len 64 h, nm_r (e' := upd a_word len w) (by rw [nI_clamp (by omega)]) ⟨pk_in len 64 h, nm_r (e' := upd a_with len x) (by rw [nI_clamp (by omega)]) (nm_r (nI_1 len) hp)⟩⟩
theorem el_2 {post : SX → Prop} {c L d p B : Nat} {cp : Nat → Nat} {St Dn : Nat → Prop} (hc : c ≤ 10) (hp : p < 10) (hd : d < 10) (hF : lo_F c L a_from a_to) (hB : B ≤ 50) (h : ∀ (len : Nat) (wd wt : Nat → Int32), em_K (p + 1) L len a_from a_to wd wt a_loopStart cp St (fun l => Dn l ∨ ((a_to l).toNatClampNeg = p ∧ (a_from l).toNatClampNeg = d)) → len ≤ B + rc_n (em_tf a_from a_to p d) L → post (f_ready, f_count, nI L, nI len, f_label, f_entered, f_ended, f_written, a_size, a_op, a_target, a_operand, a_test, a_first, a_second, a_order, a_place, a_walkStack, a_walkSide, a_from, a_to, wd, wt, a_loopStart, a_var, a_seen, a_lastOut)) : ∀ (n l len : Nat) (wd wt : Nat → Int32), n + l = L + 1 → l ≤ L → em_K (p + 1) L len a_from a_to wd wt a_loopStart cp St (fun l' => Dn l' ∨ ((a_to l').toNatClampNeg = p ∧ (a_from l').toNatClampNeg = d ∧ l' < l)) → len ≤ B + rc_n (em_tf a_from a_to p d) l → wX_endLoop_2 post (nI d) (nI p) n (nI l) f_ready f_count (nI L) (nI len) f_label f_entered f_ended f_written a_size a_op a_target a_operand a_test a_first a_second a_order a_place a_walkStack a_walkSide a_from a_to wd wt a_loopStart a_var a_seen a_lastOut := by
  have hL := lo_le hF hc
  intro n
  induction n with
  | zero =>
    intro l len wd wt hn hl
    omega
  | succ n ih =>
    intro l len wd wt hn hl hK hlen
    have hl10 := rc_le (em_tf a_from a_to p d) l
    by_cases hlL : l = L
    · subst hlL
      exact br_t (nI_le (by omega) (by omega)) (h len wd wt (em_w hK (fun _ _ z => z) (fun k hk z => z.imp id (fun z => ⟨z.1, z.2, hk⟩))) hlen)
    · obtain ⟨a, b, h1, h2, h3, h4⟩ := hF.1 l (by omega)
      have ea : (a_from l).toNatClampNeg = a := by rw [h3, nI_clamp (by omega)]
      have eb : (a_to l).toNatClampNeg = b := by rw [h4, nI_clamp (by omega)]
      have skip : ¬ (b = p ∧ a = d) → wX_endLoop_2 post (nI d) (nI p) n (nI (l + 1)) f_ready f_count (nI L) (nI len) f_label f_entered f_ended f_written a_size a_op a_target a_operand a_test a_first a_second a_order a_place a_walkStack a_walkSide a_from a_to wd wt a_loopStart a_var a_seen a_lastOut := by
        intro hne
        refine ih (l + 1) len wd wt (by omega) (by omega) (em_w hK (fun _ _ z => z) ?_) (Nat.le_trans hlen (Nat.add_le_add_left (em_s' _ l) B))
        intro k hk z
        rcases z with z | ⟨z1, z2, z3⟩
        · exact Or.inl z
        · by_cases ek : k = l
          · rw [ek, eb] at z1
            rw [ek, ea] at z2
            exact absurd ⟨z1, z2⟩ hne
          · exact Or.inr ⟨z1, z2, by omega⟩
      refine br_f (nI_ge (by omega) (by omega)) ⟨pk_in l 20 (by omega), ?_⟩
      rw [nI_clamp (n := l) (by omega)]
      refine pk_eq a d (fun had => ⟨pk_in l 20 (by omega), pk_eq b p (fun hbp => ?_) (fun hbp => nm_r (nI_1 l) (skip (fun z => hbp z.1))) h4⟩) (fun had => nm_r (nI_1 l) (skip (fun z => had z.2))) h3
      refine em_put (by omega) (nm_r (nI_1 l) ?_)
      refine ih (l + 1) (len + 1) _ _ (by omega) (by omega) (em_w (em_rep hK (by omega) (by rw [h4, hbp])) (fun _ _ z => z) ?_) ?_
      · intro k hk z
        rcases z with z | ⟨z1, z2, z3⟩
        · exact Or.inl (Or.inl z)
        · by_cases ek : k = l
          · exact Or.inr ek
          · exact Or.inl (Or.inr ⟨z1, z2, by omega⟩)
      · rw [em_s (f := em_tf a_from a_to p d) (n := l) (decide_eq_true ⟨eb.trans hbp, ea.trans had⟩)]
        omega
theorem em_65 {post : SX → Prop} {J : Int32 → Int32 → Int32 → Int32 → Int32 → Int32 → Int32 → Int32 → Int32 → (Nat → Int32) → (Nat → Int32) → (Nat → Int32) → (Nat → Int32) → (Nat → Int32) → (Nat → Int32) → (Nat → Int32) → (Nat → Int32) → (Nat → Int32) → (Nat → Int32) → (Nat → Int32) → (Nat → Int32) → (Nat → Int32) → (Nat → Int32) → (Nat → Int32) → (Nat → Int32) → (Nat → Int32) → (Nat → Int32) → (Nat → Int32) → Prop} {c L p B : Nat} {cp : Nat → Nat} {St : Nat → Prop} (hc : c ≤ 10) (hp : p < 10) (hF : lo_F c L a_from a_to) (hB : B + L ≤ 50) (hJ : ∀ (len : Nat) (wd wt : Nat → Int32), em_K (p + 1) L len a_from a_to wd wt a_loopStart cp St (fun l => (a_to l).toNatClampNeg < p + 1) → len ≤ B + rc_n (em_te a_from a_to p 0) L → J (nI (p + 1)) f_ready f_count (nI L) (nI len) f_label f_entered f_ended f_written a_size a_op a_target a_operand a_test a_first a_second a_order a_place a_walkStack a_walkSide a_from a_to wd wt a_loopStart a_var a_seen a_lastOut) : ∀ (d len : Nat) (wd wt : Nat → Int32), d ≤ 10 → em_K (p + 1) L len a_from a_to wd wt a_loopStart cp St (fun l => (a_to l).toNatClampNeg < p ∨ ((a_to l).toNatClampNeg = p ∧ d ≤ (a_from l).toNatClampNeg)) → len ≤ B + rc_n (em_te a_from a_to p d) L → wX_emit_65 post J (nI p) (d + 1) (em_pm d) f_ready f_count (nI L) (nI len) f_label f_entered f_ended f_written a_size a_op a_target a_operand a_test a_first a_second a_order a_place a_walkStack a_walkSide a_from a_to wd wt a_loopStart a_var a_seen a_lastOut := by
  intro d
  induction d with
  | zero =>
    intro len wd wt hd hK hlen
    refine br_t (by decide) (nm_r (nI_1 p) (hJ len wd wt (em_w hK (fun _ _ z => z) ?_) hlen))
    intro k hk z
    by_cases e : (a_to k).toNatClampNeg = p
    · exact Or.inr ⟨e, by omega⟩
    · exact Or.inl (by omega)
  | succ d ih =>
    intro len wd wt hd hK hlen
    have hle := rc_le (em_te a_from a_to p (d + 1)) L
    refine br_f (nI_pos (n := d) (by omega)) (Exists.intro (L + 1) ?_)
    refine el_2 (B := B + rc_n (em_te a_from a_to p (d + 1)) L) (Dn := fun l => (a_to l).toNatClampNeg < p ∨ ((a_to l).toNatClampNeg = p ∧ d + 1 ≤ (a_from l).toNatClampNeg)) hc hp (by omega) hF (by omega) ?_ (L + 1) 0 len wd wt (by omega) (by omega) (em_w hK (fun _ _ z => z) ?_) (Nat.le_trans hlen (Nat.le_add_right _ _))
    · intro len' wd' wt' hK' hlen'
      refine nm_r (em_pms d) (ih len' wd' wt' (by omega) (em_w hK' (fun _ _ z => z) ?_) ?_)
      · intro k hk z
        rcases z with z | ⟨z1, z2⟩
        · exact Or.inl (Or.inl z)
        · by_cases e : (a_from k).toNatClampNeg = d
          · exact Or.inr ⟨z1, e⟩
          · exact Or.inl (Or.inr ⟨z1, by omega⟩)
      · have := em_c3 a_from a_to p d L
        omega
    · intro k hk z
      rcases z with z | ⟨_, _, z⟩
      · exact z
      · omega
theorem em_17 {post : SX → Prop} {J : Int32 → Int32 → Int32 → Int32 → Int32 → Int32 → Int32 → Int32 → Int32 → (Nat → Int32) → (Nat → Int32) → (Nat → Int32) → (Nat → Int32) → (Nat → Int32) → (Nat → Int32) → (Nat → Int32) → (Nat → Int32) → (Nat → Int32) → (Nat → Int32) → (Nat → Int32) → (Nat → Int32) → (Nat → Int32) → (Nat → Int32) → (Nat → Int32) → (Nat → Int32) → (Nat → Int32) → (Nat → Int32) → (Nat → Int32) → Prop} {c L p : Nat} {cp : Nat → Nat} (hc : c ≤ 10) (hp : p < c) (hF : lo_F c L a_from a_to) (hJ : ∀ (len : Nat) (wd wt ls : Nat → Int32) (cp' : Nat → Nat), em_K (p + 1) L len a_from a_to wd wt ls cp' (fun l => (a_from l).toNatClampNeg < p + 1) (fun l => (a_to l).toNatClampNeg < p + 1) → len ≤ rc_n (em_f a_from (p + 1)) L + (p + 1) + rc_n (em_f a_to (p + 1)) L → J (nI (p + 1)) f_ready f_count (nI L) (nI len) f_label f_entered f_ended f_written a_size a_op a_target a_operand a_test a_first a_second a_order a_place a_walkStack a_walkSide a_from a_to wd wt ls a_var a_seen a_lastOut) : ∀ (n l len : Nat) (wd wt ls : Nat → Int32), n + l = L + 1 → l ≤ L → em_K p L len a_from a_to wd wt ls cp (fun k => (a_from k).toNatClampNeg < p ∨ ((a_from k).toNatClampNeg = p ∧ k < l)) (fun k => (a_to k).toNatClampNeg < p) → len ≤ rc_n (em_f a_from p) L + p + rc_n (em_f a_to p) L + rc_n (em_fe a_from p) l → wX_emit_17 post J (nI p) n (nI l) f_ready f_count (nI L) (nI len) f_label f_entered f_ended f_written a_size a_op a_target a_operand a_test a_first a_second a_order a_place a_walkStack a_walkSide a_from a_to wd wt ls a_var a_seen a_lastOut := by
  have hL := lo_le hF hc
  have b1 := rc_le (em_f a_from p) L
  have b2 := rc_le (em_f a_to p) L
  have b3 := rc_le (em_f a_from (p + 1)) L
  intro n
  induction n with
  | zero =>
    intro l len wd wt ls hn hl
    omega
  | succ n ih =>
    intro l len wd wt ls hn hl hK hlen
    have b4 := rc_le (em_fe a_from p) l
    by_cases hlL : l = L
    · subst hlL
      have c1 := em_c1 a_from p l
      refine br_t (nI_le (by omega) (by omega)) (em_put (by omega) (Exists.intro (p + 2) ?_))
      refine em_65 (B := rc_n (em_f a_from (p + 1)) l + (p + 1) + rc_n (em_f a_to p) l) hc (by omega) hF (by omega) ?_ (p + 1) (len + 1) _ _ (by omega) (em_w (em_code hK) (St' := fun k => (a_from k).toNatClampNeg < p + 1) ?_ ?_) (by omega)
      · intro len' wd' wt' hK' hlen'
        refine hJ len' wd' wt' ls _ hK' ?_
        have := em_c2 a_from a_to p l
        omega
      · intro k hk z
        by_cases e : (a_from k).toNatClampNeg = p
        · exact Or.inr ⟨e, hk⟩
        · exact Or.inl (by omega)
      · intro k hk z
        rcases z with z | ⟨z1, z2⟩
        · exact z
        · obtain ⟨a, b, h1, h2, h3, h4⟩ := hF.1 k hk
          rw [h4, nI_clamp (by omega)] at z1
          rw [h3, nI_clamp (by omega)] at z2
          omega
    · obtain ⟨a, b, h1, h2, h3, h4⟩ := hF.1 l (by omega)
      have ea : (a_from l).toNatClampNeg = a := by rw [h3, nI_clamp (by omega)]
      refine br_f (nI_ge (by omega) (by omega)) ⟨pk_in l 20 (by omega), ?_⟩
      rw [nI_clamp (n := l) (by omega)]
      refine pk_eq a p (fun hap => ⟨pk_in l 20 (by omega), nm_e ?_⟩) (fun hap => nm_r (nI_1 l) ?_) h3
      · refine em_put (by omega) (nm_r (nI_1 l) ?_)
        refine ih (l + 1) (len + 1) _ _ _ (by omega) (by omega) (em_w (em_loop hK (by omega) (l := l) (by omega) (by rw [h3, hap])) ?_ (fun _ _ z => z)) ?_
        · intro k hk z
          rcases z with z | ⟨z1, z2⟩
          · exact Or.inl (Or.inl z)
          · by_cases ek : k = l
            · exact Or.inr ek
            · exact Or.inl (Or.inr ⟨z1, by omega⟩)
        · rw [em_s (f := em_fe a_from p) (n := l) (decide_eq_true (ea.trans hap))]
          omega
      · refine ih (l + 1) len wd wt ls (by omega) (by omega) (em_w hK ?_ (fun _ _ z => z)) (Nat.le_trans hlen (Nat.add_le_add_left (em_s' _ l) _))
        intro k hk z
        rcases z with z | ⟨z1, z2⟩
        · exact Or.inl z
        · by_cases ek : k = l
          · rw [ek, ea] at z1
            exact absurd z1 hap
          · exact Or.inr ⟨z1, by omega⟩
theorem em_7 {post : SX → Prop} {c L : Nat} (hc : c ≤ 10) (hF : lo_F c L a_from a_to) (h : ∀ (len : Nat) (wd wt ls : Nat → Int32) (cp : Nat → Nat), len ≤ 30 → em_K c L len a_from a_to wd wt ls cp (fun _ => True) (fun _ => True) → post (f_ready, nI c, nI L, nI len, f_label, f_entered, f_ended, f_written, a_size, a_op, a_target, a_operand, a_test, a_first, a_second, a_order, a_place, a_walkStack, a_walkSide, a_from, a_to, wd, wt, ls, a_var, a_seen, a_lastOut)) : ∀ (n p len : Nat) (wd wt ls : Nat → Int32) (cp : Nat → Nat), n + p = c + 1 → p ≤ c → em_K p L len a_from a_to wd wt ls cp (fun l => (a_from l).toNatClampNeg < p) (fun l => (a_to l).toNatClampNeg < p) → len ≤ rc_n (em_f a_from p) L + p + rc_n (em_f a_to p) L → wX_emit_7 post n (nI p) f_ready (nI c) (nI L) (nI len) f_label f_entered f_ended f_written a_size a_op a_target a_operand a_test a_first a_second a_order a_place a_walkStack a_walkSide a_from a_to wd wt ls a_var a_seen a_lastOut := by
  have hL := lo_le hF hc
  intro n
  induction n with
  | zero =>
    intro p len wd wt ls cp hn hp
    omega
  | succ n ih =>
    intro p len wd wt ls cp hn hp hK hlen
    by_cases hpc : p = c
    · subst hpc
      have b1 := rc_le (em_f a_from p) L
      have b2 := rc_le (em_f a_to p) L
      refine br_t (nI_le (by omega) (by omega)) (h len wd wt ls cp (by omega) (em_w hK ?_ ?_))
      · intro k hk _
        obtain ⟨a, b, h1, h2, h3, h4⟩ := hF.1 k hk
        rw [h3, nI_clamp (by omega)]
        omega
      · intro k hk _
        obtain ⟨a, b, h1, h2, h3, h4⟩ := hF.1 k hk
        rw [h4, nI_clamp (by omega)]
        omega
    · refine br_f (nI_ge (by omega) (by omega)) ⟨L + 1, ?_⟩
      refine em_17 (cp := cp) hc (by omega) hF ?_ (L + 1) 0 len wd wt ls (by omega) (by omega) (em_w hK ?_ (fun _ _ z => z)) (Nat.le_trans hlen (Nat.le_add_right _ _))
      · intro len' wd' wt' ls' cp' hK' hlen'
        exact ih (p + 1) len' wd' wt' ls' cp' (by omega) (by omega) hK' hlen'
      · intro k hk z
        rcases z with z | ⟨_, z⟩
        · exact z
        · omega
theorem em_wp {post : SX → Prop} {c L : Nat} (hc : c ≤ 10) (hF : lo_F c L a_from a_to) (h : ∀ (len : Nat) (wd wt ls : Nat → Int32) (cp : Nat → Nat), len ≤ 30 → em_K c L len a_from a_to wd wt ls cp (fun _ => True) (fun _ => True) → post (f_ready, nI c, nI L, nI len, f_label, f_entered, f_ended, f_written, a_size, a_op, a_target, a_operand, a_test, a_first, a_second, a_order, a_place, a_walkStack, a_walkSide, a_from, a_to, wd, wt, ls, a_var, a_seen, a_lastOut)) : wpX_emit post (f_ready, nI c, nI L, f_length, f_label, f_entered, f_ended, f_written, a_size, a_op, a_target, a_operand, a_test, a_first, a_second, a_order, a_place, a_walkStack, a_walkSide, a_from, a_to, a_word, a_with, a_loopStart, a_var, a_seen, a_lastOut) := by
  refine Exists.intro (c + 1) (em_7 hc hF h (c + 1) 0 0 a_word a_with a_loopStart (fun _ => 0) (by omega) (by omega) ⟨?_, ?_, ?_, ?_, ?_⟩ (by omega))
  · intro p q _ hq
    omega
  · intro q hq
    omega
  · intro i hi
    omega
  · intro l hl z
    exact absurd z (by omega)
  · intro l hl z
    exact absurd z (by omega)
end
end
section
/-! ===== what prepare leaves ===== -/
def pp_P (first second : Nat → Int32) (ct lp le : Int32) (o pl fr to wd wt ls : Nat → Int32) : Prop :=
  ∃ (c L len : Nat) (cp : Nat → Nat), ct = nI c ∧ lp = nI L ∧ le = nI len ∧ len ≤ 30 ∧ od_F first second c o pl ∧ lo_F c L fr to ∧ fl_B first second o pl (lo_C L fr to) c ∧ em_K c L len fr to wd wt ls cp (fun _ => True) (fun _ => True)
section
variable {f_ready f_count f_loops f_length f_label f_entered f_ended f_written : Int32} {a_size a_op a_target a_operand a_test a_first a_second a_order a_place a_walkStack a_walkSide a_from a_to a_word a_with a_loopStart a_var a_seen a_lastOut : Nat → Int32}
theorem pr_46 {post : SX → Prop} {c L : Nat} (hO : od_F a_first a_second c a_order a_place) (hF : lo_F c L a_from a_to) (hB : fl_B a_first a_second a_order a_place (lo_C L a_from a_to) c) (h : ∀ (ct lp le : Int32) (o pl st sd fr to wd wt ls : Nat → Int32), pp_P a_first a_second ct lp le o pl fr to wd wt ls → post (f_ready, ct, lp, le, f_label, f_entered, f_ended, f_written, a_size, a_op, a_target, a_operand, a_test, a_first, a_second, o, pl, st, sd, fr, to, wd, wt, ls, a_var, a_seen, a_lastOut)) : wX_prepare_46 post f_ready (nI c) (nI L) f_length f_label f_entered f_ended f_written a_size a_op a_target a_operand a_test a_first a_second a_order a_place a_walkStack a_walkSide a_from a_to a_word a_with a_loopStart a_var a_seen a_lastOut := by
  unfold wX_prepare_46
  refine em_wp hO.2.1 hF ?_
  intro len wd wt ls cp hlen hK
  exact h _ _ _ _ _ _ _ _ _ _ _ _ ⟨c, L, len, cp, rfl, rfl, rfl, hlen, hO, hF, hB, hK⟩
theorem pr_25 {post : SX → Prop} {c L : Nat} (hO : od_F a_first a_second c a_order a_place) (h : ∀ (ct lp le : Int32) (o pl st sd fr to wd wt ls : Nat → Int32), pp_P a_first a_second ct lp le o pl fr to wd wt ls → post (f_ready, ct, lp, le, f_label, f_entered, f_ended, f_written, a_size, a_op, a_target, a_operand, a_test, a_first, a_second, o, pl, st, sd, fr, to, wd, wt, ls, a_var, a_seen, a_lastOut)) : ∀ (n i : Nat) (x : Int32) (to : Nat → Int32), n + i = 101 → i ≤ 100 → lo_F c L a_from to → fl_B a_first a_second a_order a_place (lo_C L a_from to) c → wX_prepare_25 post n x (nI i) f_ready (nI c) (nI L) f_length f_label f_entered f_ended f_written a_size a_op a_target a_operand a_test a_first a_second a_order a_place a_walkStack a_walkSide a_from to a_word a_with a_loopStart a_var a_seen a_lastOut := by
  intro n
  induction n with
  | zero =>
    intro i x to hn hi
    omega
  | succ n ih =>
    intro i x to hn hi hF hB
    by_cases h100 : i = 100
    · subst h100
      exact br_t (nI_le (a := 100) (by omega) (by decide)) (pr_46 hO hF hB h)
    · refine br_f (nI_ge (b := 100) (by omega) (by decide)) (br_c (fun _ => pr_46 hO hF hB h) (fun _ => ?_))
      refine wd_wp (C0 := lo_C L a_from to) hO.2.1 hF (fun _ _ z => z) ?_
      intro x' to' hF' hC'
      exact nm_r (nI_1 i) (ih (i + 1) x' to' (by omega) (by omega) hF' (fl_Bm hC' hB))
theorem pr_wp {post : SX → Prop} (hWf : gr_W a_first) (hWs : gr_W a_second) (h0 : f_ready = 0 ∨ pp_P a_first a_second f_count f_loops f_length a_order a_place a_from a_to a_word a_with a_loopStart) (h : ∀ (rd ct lp le : Int32) (o pl st sd fr to wd wt ls : Nat → Int32), pp_P a_first a_second ct lp le o pl fr to wd wt ls → post (rd, ct, lp, le, f_label, f_entered, f_ended, f_written, a_size, a_op, a_target, a_operand, a_test, a_first, a_second, o, pl, st, sd, fr, to, wd, wt, ls, a_var, a_seen, a_lastOut)) : wpX_prepare post (f_ready, f_count, f_loops, f_length, f_label, f_entered, f_ended, f_written, a_size, a_op, a_target, a_operand, a_test, a_first, a_second, a_order, a_place, a_walkStack, a_walkSide, a_from, a_to, a_word, a_with, a_loopStart, a_var, a_seen, a_lastOut) := by
  by_cases hr : f_ready = 0
  · refine br_t hr (or_wp hWf hWs ?_)
    intro c o pl st sd hO
    refine fl_wp hWf hWs hO ?_
    intro L fr to hF hB
    refine ⟨101, ?_⟩
    exact pr_25 (c := c) (L := L) hO (fun ct lp le o pl st sd fr to wd wt ls z => h 1 ct lp le o pl st sd fr to wd wt ls z) 101 0 1 to (by omega) (by omega) hF hB
  · exact br_f hr (h _ _ _ _ _ _ _ _ _ _ _ _ _ (h0.resolve_left hr))
end
end
section
/-! ===== carrying a block out, on both sides ===== -/
/-- the ring of the last outputs against the shifted row -/
def ou_O (w : Nat) (lo re : Nat → Int32) : Prop := ∀ i, i < 16 → i < w → lo ((w - 1 - i) % 16) = re i
/-- assignments within -/
def op_K (op tg od : Nat → Int32) : Prop := ∀ i, i < 30 → ∃ o v, o ≤ 5 ∧ v < 4 ∧ op i = nI o ∧ tg i = nI v ∧ (1 ≤ o → o ≤ 3 → ∃ w, w < 4 ∧ od i = nI w)
def ou_s (re : Nat → Int32) (i : Nat) : Nat → Int32 := fun j => if i < j ∧ j < 16 then re (j - 1) else re j
theorem ou_s15 (re : Nat → Int32) : ou_s re 15 = re := by
  funext j
  exact if_neg (by omega)
theorem ou_ss (re : Nat → Int32) (i : Nat) (h : i + 1 < 16) : upd (ou_s re (i + 1)) (i + 1) (ou_s re (i + 1) i) = ou_s re i := by
  funext j
  have e0 : ou_s re (i + 1) i = re i := if_neg (by omega)
  rw [e0]
  by_cases hj : j = i + 1
  · rw [hj, pk_us]
    have e1 : ou_s re i (i + 1) = re (i + 1 - 1) := if_pos (by omega)
    rw [e1, Nat.add_sub_cancel]
  · rw [pk_un hj]
    by_cases h2 : i < j ∧ j < 16
    · have e1 : ou_s re i j = re (j - 1) := if_pos h2
      have e2 : ou_s re (i + 1) j = re (j - 1) := if_pos (by omega)
      rw [e1, e2]
    · have e1 : ou_s re i j = re j := if_neg h2
      have e2 : ou_s re (i + 1) j = re j := if_neg (by omega)
      rw [e1, e2]
theorem ou_n {w : Nat} {lo re : Nat → Int32} {x : Int32} (h : ou_O w lo re) : ou_O (w + 1) (upd lo (w % 16) x) (upd (ou_s re 0) 0 x) := by
  intro i hi hw
  by_cases h0 : i = 0
  · rw [h0, pk_us, show (w + 1 - 1 - 0) % 16 = w % 16 by omega, pk_us]
  · have e1 : ou_s re 0 i = re (i - 1) := if_pos (by omega)
    rw [pk_un h0, e1, pk_un (by omega), ← h (i - 1) (by omega) (by omega)]
    congr 1
    omega
section
variable {f_outputs f_last : Int32} {a_counts a_ops a_vs a_ws a_ends a_tests a_thens a_elses a_vars a_recent a_visits : Nat → Int32}
theorem yo_3 {post : SY → Prop} {x : Int32} (h : post (f_outputs + 1, f_last, a_counts, a_ops, a_vs, a_ws, a_ends, a_tests, a_thens, a_elses, a_vars, upd (ou_s a_recent 0) 0 x, a_visits)) : ∀ i, i < 16 → wY_out_3 post x f_outputs f_last (i + 1) (nI i) a_counts a_ops a_vs a_ws a_ends a_tests a_thens a_elses a_vars (ou_s a_recent i) a_visits := by
  intro i
  induction i with
  | zero =>
    intro _
    exact br_t (nI_le (a := 0) (b := 0) (by omega) (by omega)) (nm_e (nm_e h))
  | succ i ih =>
    intro hi
    exact br_f (nI_nle (by omega) (by omega)) ⟨pk_in i 16 (by omega) (nI_pred i), pk_in (i + 1) 16 hi, nm_r (e' := ou_s a_recent i) (by rw [nI_pred, nI_clamp (by omega), nI_clamp (by omega), ou_ss _ _ hi]) (nm_r (pk_m1 i) (ih (by omega)))⟩
theorem yo_wp {post : SY → Prop} {x : Int32} (h : post (f_outputs + 1, f_last, a_counts, a_ops, a_vs, a_ws, a_ends, a_tests, a_thens, a_elses, a_vars, upd (ou_s a_recent 0) 0 x, a_visits)) : wpY_out post (f_outputs, f_last, a_counts, a_ops, a_vs, a_ws, a_ends, a_tests, a_thens, a_elses, a_vars, a_recent, a_visits) x := by
  have z := yo_3 h 15 (by omega)
  rw [ou_s15] at z
  exact Exists.intro 16 z
theorem yv_wp (x : Int32) : (∃ j, j < 4 ∧ x = nI j ∧ ∀ (post : Int32 → Prop) (u : SY), post 0 → wpY_badVariable post u x) ∨ ((∀ j, j < 4 → x ≠ nI j) ∧ ∀ (post : Int32 → Prop) (u : SY), post 1 → wpY_badVariable post u x) := by
  rcases pk_ix x (n := 4) (by decide) with h | h | ⟨j, hj, e⟩
  · refine Or.inr ⟨fun j hj e => ?_, fun post u hp => ?_⟩
    · rw [e] at h
      exact nI_pos (by omega) h
    · match u with
      | (f_outputs, f_last, a_counts, a_ops, a_vs, a_ws, a_ends, a_tests, a_thens, a_elses, a_vars, a_recent, a_visits) => exact br_t h hp
  · have h4 : ¬ x ≤ 3 := by
      intro z
      have z2 : nI 4 ≤ nI 3 := Int32.le_trans h z
      rw [nI_leI (by decide) (by decide)] at z2
      omega
    have h0 : ¬ x < 0 := by
      intro z
      have z2 : nI 4 < nI 0 := Int32.lt_of_le_of_lt h z
      rw [nI_ltI (by decide) (by decide)] at z2
      omega
    refine Or.inr ⟨fun j hj e => ?_, fun post u hp => ?_⟩
    · rw [e] at h
      exact nI_ge (by omega) (by decide) h
    · match u with
      | (f_outputs, f_last, a_counts, a_ops, a_vs, a_ws, a_ends, a_tests, a_thens, a_elses, a_vars, a_recent, a_visits) => exact br_f h0 (br_f h4 hp)
  · subst e
    refine Or.inl ⟨j, hj, rfl, fun post u hp => ?_⟩
    match u with
    | (f_outputs, f_last, a_counts, a_ops, a_vs, a_ws, a_ends, a_tests, a_thens, a_elses, a_vars, a_recent, a_visits) => exact br_f (nI_pos (by omega)) (br_t (nI_le (b := 3) (by omega) (by decide)) hp)
theorem cy_pre {i v : Nat} (hi : i < 30) (hv : a_vs i = nI v) : ∃ z0 : Int32, (∀ w, w < 4 → a_ws i = nI w → z0 = a_vars w) ∧ ∀ post : SY → Prop, wY_carryOut_32 post (nI i) (nI v) (a_ws i) z0 f_outputs f_last a_counts a_ops a_vs a_ws a_ends a_tests a_thens a_elses a_vars a_recent a_visits → wpY_carryOut post (f_outputs, f_last, a_counts, a_ops, a_vs, a_ws, a_ends, a_tests, a_thens, a_elses, a_vars, a_recent, a_visits) (nI i) := by
  have ii : vp_in (nI i) 30 := pk_in i 30 hi
  have e1 : a_vs (nI i).toNatClampNeg = nI v := by rw [nI_clamp (by omega), hv]
  have e2 : a_ws (nI i).toNatClampNeg = a_ws i := by rw [nI_clamp (by omega)]
  rcases yv_wp (a_ws i) with ⟨j, hj, ej, hb⟩ | ⟨hn, hb⟩
  · refine ⟨a_vars j, fun w hw ew => by rw [ri_inj (ej.symm.trans ew)], fun post hp => ?_⟩
    refine And.intro ii (nm_r e1 ⟨ii, nm_r e2 (hb _ _ (br_t rfl ⟨pk_in j 4 hj ej, ?_⟩))⟩)
    have e3 : (a_ws i).toNatClampNeg = j := by rw [ej, nI_clamp (by omega)]
    rw [e3]
    exact hp
  · exact ⟨0, fun w hw ew => absurd ew (hn w hw), fun post hp => And.intro ii (nm_r e1 ⟨ii, nm_r e2 (hb _ _ (br_f (by decide) hp))⟩)⟩
end
section
variable {f_ready f_count f_loops f_length f_label f_entered f_ended f_written : Int32} {a_size a_op a_target a_operand a_test a_first a_second a_order a_place a_walkStack a_walkSide a_from a_to a_word a_with a_loopStart a_var a_seen a_lastOut : Nat → Int32} {a_ends a_tests a_thens a_elses a_recent : Nat → Int32}
/-- one assignment on both sides -/
theorem ca_wp {i w : Nat} (hi : i < 30) (hw : w < 2 ^ 20) (hK : op_K a_op a_target a_operand) (hO : ou_O w a_lastOut a_recent) : ∃ (var' lo' re' : Nat → Int32) (w' : Nat), w' ≤ w + 1 ∧ ou_O w' lo' re' ∧ (∀ post : SX → Prop, post (f_ready, f_count, f_loops, f_length, f_label, f_entered, f_ended, nI w', a_size, a_op, a_target, a_operand, a_test, a_first, a_second, a_order, a_place, a_walkStack, a_walkSide, a_from, a_to, a_word, a_with, a_loopStart, var', a_seen, lo') → wpX_carryOut post (f_ready, f_count, f_loops, f_length, f_label, f_entered, f_ended, nI w, a_size, a_op, a_target, a_operand, a_test, a_first, a_second, a_order, a_place, a_walkStack, a_walkSide, a_from, a_to, a_word, a_with, a_loopStart, a_var, a_seen, a_lastOut) (nI i)) ∧ (∀ post : SY → Prop, post (nI w', f_ended, a_size, a_op, a_target, a_operand, a_ends, a_tests, a_thens, a_elses, var', re', a_seen) → wpY_carryOut post (nI w, f_ended, a_size, a_op, a_target, a_operand, a_ends, a_tests, a_thens, a_elses, a_var, a_recent, a_seen) (nI i)) := by
  obtain ⟨o, v, ho, hv, eo, ev, hod⟩ := hK i hi
  have ii : vp_in (nI i) 30 := pk_in i 30 hi
  have iv : vp_in (nI v) 4 := pk_in v 4 hv
  have e1 : a_target (nI i).toNatClampNeg = nI v := by rw [nI_clamp (by omega), ev]
  have e2 : a_operand (nI i).toNatClampNeg = a_operand i := by rw [nI_clamp (by omega)]
  have e3 : a_op (nI i).toNatClampNeg = nI o := by rw [nI_clamp (by omega), eo]
  have cv : (nI v).toNatClampNeg = v := nI_clamp (by omega)
  obtain ⟨z0, hz, hY⟩ := cy_pre (f_outputs := nI w) (f_last := f_ended) (a_counts := a_size) (a_ops := a_op) (a_vs := a_target) (a_ws := a_operand) (a_ends := a_ends) (a_tests := a_tests) (a_thens := a_thens) (a_elses := a_elses) (a_vars := a_var) (a_recent := a_recent) (a_visits := a_seen) hi ev
  have co : o = 0 ∨ o = 1 ∨ o = 2 ∨ o = 3 ∨ o = 4 ∨ o = 5 := by omega
  rcases co with h | h | h | h | h | h
  · subst h
    refine ⟨upd a_var v (a_operand i), a_lastOut, a_recent, w, by omega, hO, fun post hp => ?_, fun post hp => hY post ?_⟩
    · exact And.intro ii (nm_r e1 ⟨ii, nm_r e2 ⟨ii, nm_r e3 (br_f (nI_pos (by omega)) (br_f (nI_nlt (a := 4) (b := 0) (by omega) (by decide)) (br_t rfl ⟨iv, nm_r (by rw [cv]) hp⟩)))⟩⟩)
    · exact And.intro ii (br_t e3 ⟨iv, nm_r (by rw [cv]) hp⟩)
  · subst h
    obtain ⟨x, hx, ex⟩ := hod (by omega) (by omega)
    have zx := hz x hx ex
    have ix : vp_in (a_operand i) 4 := pk_in x 4 hx ex
    have cx : (a_operand i).toNatClampNeg = x := by rw [ex, nI_clamp (by omega)]
    refine ⟨upd a_var v (a_var v + a_var x), a_lastOut, a_recent, w, by omega, hO, fun post hp => ?_, fun post hp => hY post ?_⟩
    · exact And.intro ii (nm_r e1 ⟨ii, nm_r e2 ⟨ii, nm_r e3 (br_f (nI_pos (by omega)) (br_f (nI_nlt (a := 4) (b := 1) (by omega) (by decide)) (br_f (ri_ne (a := 1) (b := 0) (by omega)) (br_t rfl ⟨iv, ix, iv, nm_r (by rw [cv, cx]) hp⟩))))⟩⟩)
    · exact And.intro ii (br_f (by rw [e3]; exact ri_ne (a := 1) (b := 0) (by omega)) ⟨ii, br_t e3 ⟨iv, iv, nm_r (by rw [cv, zx]) hp⟩⟩)
  · subst h
    obtain ⟨x, hx, ex⟩ := hod (by omega) (by omega)
    have zx := hz x hx ex
    have ix : vp_in (a_operand i) 4 := pk_in x 4 hx ex
    have cx : (a_operand i).toNatClampNeg = x := by rw [ex, nI_clamp (by omega)]
    refine ⟨upd a_var v (a_var v - a_var x), a_lastOut, a_recent, w, by omega, hO, fun post hp => ?_, fun post hp => hY post ?_⟩
    · exact And.intro ii (nm_r e1 ⟨ii, nm_r e2 ⟨ii, nm_r e3 (br_f (nI_pos (by omega)) (br_f (nI_nlt (a := 4) (b := 2) (by omega) (by decide)) (br_f (ri_ne (a := 2) (b := 0) (by omega)) (br_f (ri_ne (a := 2) (b := 1) (by omega)) (br_t rfl ⟨iv, ix, iv, nm_r (by rw [cv, cx]) hp⟩)))))⟩⟩)
    · exact And.intro ii (br_f (by rw [e3]; exact ri_ne (a := 2) (b := 0) (by omega)) ⟨ii, br_f (by rw [e3]; exact ri_ne (a := 2) (b := 1) (by omega)) ⟨ii, br_t e3 ⟨iv, iv, nm_r (by rw [cv, zx]) hp⟩⟩⟩)
  · subst h
    obtain ⟨x, hx, ex⟩ := hod (by omega) (by omega)
    have zx := hz x hx ex
    have ix : vp_in (a_operand i) 4 := pk_in x 4 hx ex
    have cx : (a_operand i).toNatClampNeg = x := by rw [ex, nI_clamp (by omega)]
    refine ⟨upd a_var v (a_var v * a_var x), a_lastOut, a_recent, w, by omega, hO, fun post hp => ?_, fun post hp => hY post ?_⟩
    · exact And.intro ii (nm_r e1 ⟨ii, nm_r e2 ⟨ii, nm_r e3 (br_f (nI_pos (by omega)) (br_f (nI_nlt (a := 4) (b := 3) (by omega) (by decide)) (br_f (ri_ne (a := 3) (b := 0) (by omega)) (br_f (ri_ne (a := 3) (b := 1) (by omega)) (br_f (ri_ne (a := 3) (b := 2) (by omega)) (br_t rfl ⟨iv, ix, iv, nm_r (by rw [cv, cx]) hp⟩))))))⟩⟩)
    · exact And.intro ii (br_f (by rw [e3]; exact ri_ne (a := 3) (b := 0) (by omega)) ⟨ii, br_f (by rw [e3]; exact ri_ne (a := 3) (b := 1) (by omega)) ⟨ii, br_f (by rw [e3]; exact ri_ne (a := 3) (b := 2) (by omega)) ⟨ii, br_t e3 ⟨iv, iv, nm_r (by rw [cv, zx]) hp⟩⟩⟩⟩)
  · subst h
    refine ⟨upd a_var v (a_var v + a_operand i), a_lastOut, a_recent, w, by omega, hO, fun post hp => ?_, fun post hp => hY post ?_⟩
    · exact And.intro ii (nm_r e1 ⟨ii, nm_r e2 ⟨ii, nm_r e3 (br_f (nI_pos (by omega)) (br_f (nI_nlt (a := 4) (b := 4) (by omega) (by decide)) (br_f (ri_ne (a := 4) (b := 0) (by omega)) (br_f (ri_ne (a := 4) (b := 1) (by omega)) (br_f (ri_ne (a := 4) (b := 2) (by omega)) (br_f (ri_ne (a := 4) (b := 3) (by omega)) (br_t rfl ⟨iv, iv, nm_r (by rw [cv]) hp⟩)))))))⟩⟩)
    · exact And.intro ii (br_f (by rw [e3]; exact ri_ne (a := 4) (b := 0) (by omega)) ⟨ii, br_f (by rw [e3]; exact ri_ne (a := 4) (b := 1) (by omega)) ⟨ii, br_f (by rw [e3]; exact ri_ne (a := 4) (b := 2) (by omega)) ⟨ii, br_f (by rw [e3]; exact ri_ne (a := 4) (b := 3) (by omega)) ⟨ii, br_t e3 ⟨iv, iv, nm_r (by rw [cv]) hp⟩⟩⟩⟩⟩)
  · subst h
    have ea : nI w &&& 15 = nI (w % 16) := pk_andN (by omega) 4 (by decide)
    have ia : vp_in (nI w &&& 15) 16 := pk_in (w % 16) 16 (by omega) ea
    have ca : (nI w &&& 15).toNatClampNeg = w % 16 := by rw [ea, nI_clamp (by omega)]
    refine ⟨a_var, upd a_lastOut (w % 16) (a_var v), upd (ou_s a_recent 0) 0 (a_var v), w + 1, by omega, ou_n hO, fun post hp => ?_, fun post hp => hY post ?_⟩
    · exact And.intro ii (nm_r e1 ⟨ii, nm_r e2 ⟨ii, nm_r e3 (br_f (nI_pos (by omega)) (br_t (nI_lt (a := 4) (b := 5) (by omega) (by decide)) ⟨iv, ia, nm_r (by rw [cv, ca]) (nm_r (nI_1 w) hp)⟩))⟩⟩)
    · refine And.intro ii (br_f (by rw [e3]; exact ri_ne (a := 5) (b := 0) (by omega)) ⟨ii, br_f (by rw [e3]; exact ri_ne (a := 5) (b := 1) (by omega)) ⟨ii, br_f (by rw [e3]; exact ri_ne (a := 5) (b := 2) (by omega)) ⟨ii, br_f (by rw [e3]; exact ri_ne (a := 5) (b := 3) (by omega)) ⟨ii, br_f (by rw [e3]; exact ri_ne (a := 5) (b := 4) (by omega)) ⟨iv, ?_⟩⟩⟩⟩⟩)
      rw [cv]
      refine yo_wp ?_
      rw [nI_1]
      exact hp
end
end
section
/-! ===== a block entered, on both sides ===== -/
/-- a block's end as both keep it -/
def gk_G (tst fst snd ends tests thens elses : Nat → Int32) (b : Nat) : Prop :=
  (ends b = 0 ∧ tst b = -1 ∧ fst b = -1 ∧ snd b = -1) ∨
  (ends b = 1 ∧ tst b = -1 ∧ snd b = -1 ∧ ∃ t, t < 10 ∧ fst b = nI t ∧ thens b = nI t) ∨
  (ends b = 2 ∧ ∃ v t e, v < 4 ∧ t < 10 ∧ e < 10 ∧ tst b = nI v ∧ tests b = nI v ∧ fst b = nI t ∧ thens b = nI t ∧ snd b = nI e ∧ elses b = nI e)
section
variable {f_ready f_count f_loops f_length f_label f_entered f_ended f_written : Int32} {a_size a_op a_target a_operand a_test a_first a_second a_order a_place a_walkStack a_walkSide a_from a_to a_word a_with a_loopStart a_var a_seen a_lastOut : Nat → Int32} {a_ends a_tests a_thens a_elses a_recent : Nat → Int32}
theorem en_29 {b sz : Nat} (hb : b < 10) (hs : a_size b = nI sz) (hs3 : sz ≤ 3) (hK : op_K a_op a_target a_operand) : ∀ (j i w : Nat) (var lo re : Nat → Int32), i + j = sz → w + j < 2 ^ 20 → ou_O w lo re → ∃ (var' lo' re' : Nat → Int32) (w' : Nat), w' ≤ w + j ∧ ou_O w' lo' re' ∧ (∀ post : SX → Prop, wX_enter_29 post (nI b) 1 (nI (b * 3 + sz)) f_ready f_count f_loops f_length f_label f_entered f_ended (nI w') a_size a_op a_target a_operand a_test a_first a_second a_order a_place a_walkStack a_walkSide a_from a_to a_word a_with a_loopStart var' a_seen lo' → wX_enter_29 post (nI b) (j + 1) (nI (b * 3 + i)) f_ready f_count f_loops f_length f_label f_entered f_ended (nI w) a_size a_op a_target a_operand a_test a_first a_second a_order a_place a_walkStack a_walkSide a_from a_to a_word a_with a_loopStart var a_seen lo) ∧ (∀ post : SY → Prop, post (nI w', f_ended, a_size, a_op, a_target, a_operand, a_ends, a_tests, a_thens, a_elses, var', re', a_seen) → wY_enter_21 post (nI b) (j + 1) (nI i) (nI w) f_ended a_size a_op a_target a_operand a_ends a_tests a_thens a_elses var re a_seen) := by
  have ib : vp_in (nI b) 10 := pk_in b 10 hb
  have cb : a_size (nI b).toNatClampNeg = nI sz := by rw [nI_clamp (by omega), hs]
  have e1 : nI b * 3 + a_size (nI b).toNatClampNeg = nI (b * 3 + sz) := by
    rw [cb]
    show nI b * nI 3 + nI sz = _
    rw [pk_mul, nI_add]
  intro j
  induction j with
  | zero =>
    intro i w var lo re hij hw hO
    have e : i = sz := by omega
    subst e
    refine ⟨var, lo, re, w, by omega, hO, fun post h => h, fun post h => ?_⟩
    exact And.intro ib (br_t (by rw [cb]; exact nI_le (by omega) (by omega)) h)
  | succ j ih =>
    intro i w var lo re hij hw hO
    obtain ⟨var1, lo1, re1, w1, hw1, hO1, hX1, hY1⟩ := ca_wp (f_ready := f_ready) (f_count := f_count) (f_loops := f_loops) (f_length := f_length) (f_label := f_label) (f_entered := f_entered) (f_ended := f_ended) (a_size := a_size) (a_op := a_op) (a_target := a_target) (a_operand := a_operand) (a_test := a_test) (a_first := a_first) (a_second := a_second) (a_order := a_order) (a_place := a_place) (a_walkStack := a_walkStack) (a_walkSide := a_walkSide) (a_from := a_from) (a_to := a_to) (a_word := a_word) (a_with := a_with) (a_loopStart := a_loopStart) (a_var := var) (a_seen := a_seen) (a_lastOut := lo) (a_ends := a_ends) (a_tests := a_tests) (a_thens := a_thens) (a_elses := a_elses) (a_recent := re) (i := b * 3 + i) (w := w) (by omega) (by omega) hK hO
    obtain ⟨var2, lo2, re2, w2, hw2, hO2, hX2, hY2⟩ := ih (i + 1) w1 var1 lo1 re1 (by omega) (by omega) hO1
    refine ⟨var2, lo2, re2, w2, by omega, hO2, fun post h => ?_, fun post h => ?_⟩
    · exact And.intro ib (br_f (by rw [e1]; exact nI_ge (by omega) (by omega)) (hX1 _ (nm_r (nI_1 (b * 3 + i)) (hX2 post h))))
    · refine And.intro ib (br_f (by rw [cb]; exact nI_ge (by omega) (by omega)) ?_)
      have e2 : nI b * 3 + nI i = nI (b * 3 + i) := by
        show nI b * nI 3 + nI i = _
        rw [pk_mul, nI_add]
      rw [e2]
      exact hY1 _ (nm_r (nI_1 i) (hY2 post h))
/-- a block and where it goes: both sides stop, or both go on at the same block -/
theorem en_all {b sz w k : Nat} (hb : b < 10) (hs : a_size b = nI sz) (hs3 : sz ≤ 3) (hK : op_K a_op a_target a_operand) (hG : gk_G a_test a_first a_second a_ends a_tests a_thens a_elses b) (hw : w < 2 ^ 19) (hk : k < 300) (hO : ou_O w a_lastOut a_recent) : ∃ (var' lo' re' : Nat → Int32) (w' : Nat), w' ≤ w + 3 ∧ ou_O w' lo' re' ∧
    (((∀ post : SX → Prop, post (f_ready, f_count, f_loops, f_length, (-1), nI (k + 1), nI b, nI w', a_size, a_op, a_target, a_operand, a_test, a_first, a_second, a_order, a_place, a_walkStack, a_walkSide, a_from, a_to, a_word, a_with, a_loopStart, var', upd a_seen b (a_seen b + 1), lo') → wpX_enter post (f_ready, f_count, f_loops, f_length, f_label, nI k, f_ended, nI w, a_size, a_op, a_target, a_operand, a_test, a_first, a_second, a_order, a_place, a_walkStack, a_walkSide, a_from, a_to, a_word, a_with, a_loopStart, a_var, a_seen, a_lastOut) (nI b)) ∧
      (∀ (post : Int32 → SY → Prop) (n : Nat), post 1 (nI w', nI b, a_size, a_op, a_target, a_operand, a_ends, a_tests, a_thens, a_elses, var', re', upd a_seen b (a_seen b + 1)) → wY_run_30 post (n + 1) (nI b) (nI k) (nI w) f_ended a_size a_op a_target a_operand a_ends a_tests a_thens a_elses a_var a_recent a_seen)) ∨
     (∃ t, t < 10 ∧ gr_E a_first a_second b t ∧
      (∀ post : SX → Prop, post (f_ready, f_count, f_loops, f_length, a_place t, nI (k + 1), nI b, nI w', a_size, a_op, a_target, a_operand, a_test, a_first, a_second, a_order, a_place, a_walkStack, a_walkSide, a_from, a_to, a_word, a_with, a_loopStart, var', upd a_seen b (a_seen b + 1), lo') → wpX_enter post (f_ready, f_count, f_loops, f_length, f_label, nI k, f_ended, nI w, a_size, a_op, a_target, a_operand, a_test, a_first, a_second, a_order, a_place, a_walkStack, a_walkSide, a_from, a_to, a_word, a_with, a_loopStart, a_var, a_seen, a_lastOut) (nI b)) ∧
      (∀ (post : Int32 → SY → Prop) (n : Nat), wY_run_30 post n (nI t) (nI (k + 1)) (nI w') (nI b) a_size a_op a_target a_operand a_ends a_tests a_thens a_elses var' re' (upd a_seen b (a_seen b + 1)) → wY_run_30 post (n + 1) (nI b) (nI k) (nI w) f_ended a_size a_op a_target a_operand a_ends a_tests a_thens a_elses a_var a_recent a_seen))) := by
  have ib : vp_in (nI b) 10 := pk_in b 10 hb
  have cb : (nI b).toNatClampNeg = b := nI_clamp (by omega)
  obtain ⟨var', lo', re', w', hw', hO', hX, hY⟩ := en_29 (f_ready := f_ready) (f_count := f_count) (f_loops := f_loops) (f_length := f_length) (f_label := f_label) (f_entered := nI (k + 1)) (f_ended := nI b) (a_size := a_size) (a_op := a_op) (a_target := a_target) (a_operand := a_operand) (a_test := a_test) (a_first := a_first) (a_second := a_second) (a_order := a_order) (a_place := a_place) (a_walkStack := a_walkStack) (a_walkSide := a_walkSide) (a_from := a_from) (a_to := a_to) (a_word := a_word) (a_with := a_with) (a_loopStart := a_loopStart) (a_seen := upd a_seen b (a_seen b + 1)) (a_ends := a_ends) (a_tests := a_tests) (a_thens := a_thens) (a_elses := a_elses) hb hs hs3 hK sz 0 w a_var a_lastOut a_recent (by omega) (by omega) hO
  refine ⟨var', lo', re', w', by omega, hO', ?_⟩
  have e1 : nI b * 3 + a_size (nI b).toNatClampNeg = nI (b * 3 + sz) := by
    rw [cb, hs]
    show nI b * nI 3 + nI sz = _
    rw [pk_mul, nI_add]
  have e3 : nI b * 3 = nI (b * 3 + 0) := by
    show nI b * nI 3 = _
    rw [pk_mul, Nat.add_zero]
  have preX : ∀ post : SX → Prop, wX_enter_29 post (nI b) 1 (nI (b * 3 + sz)) f_ready f_count f_loops f_length f_label (nI (k + 1)) (nI b) (nI w') a_size a_op a_target a_operand a_test a_first a_second a_order a_place a_walkStack a_walkSide a_from a_to a_word a_with a_loopStart var' (upd a_seen b (a_seen b + 1)) lo' → wpX_enter post (f_ready, f_count, f_loops, f_length, f_label, nI k, f_ended, nI w, a_size, a_op, a_target, a_operand, a_test, a_first, a_second, a_order, a_place, a_walkStack, a_walkSide, a_from, a_to, a_word, a_with, a_loopStart, a_var, a_seen, a_lastOut) (nI b) := by
    intro post h
    exact nm_r (nI_1 k) ⟨ib, ib, nm_r (e' := upd a_seen b (a_seen b + 1)) (by rw [cb]) (nm_r e3 (Exists.intro (sz + 1) (hX post h)))⟩
  have preY : ∀ (post : Int32 → SY → Prop) (n : Nat) (Q : SY → Prop), Q (nI w', nI b, a_size, a_op, a_target, a_operand, a_ends, a_tests, a_thens, a_elses, var', re', upd a_seen b (a_seen b + 1)) → wpY_enter Q (nI w, f_ended, a_size, a_op, a_target, a_operand, a_ends, a_tests, a_thens, a_elses, a_var, a_recent, a_seen) (nI b) := by
    intro post n Q h
    exact And.intro ib ⟨ib, nm_r (e' := upd a_seen b (a_seen b + 1)) (by rw [cb]) (Exists.intro (sz + 1) (hY Q h))⟩
  have k300 : ¬ (300 : Int32) ≤ nI k := nI_ge (b := 300) hk (by decide)
  have xle : (nI b * 3 + a_size (nI b).toNatClampNeg) ≤ nI (b * 3 + sz) := by rw [e1]; exact nI_le (by omega) (by omega)
  rcases hG with ⟨g1, g2, g3, g4⟩ | ⟨g1, g2, g3, t, ht, g4, g5⟩ | ⟨g1, v, t, e, hv, ht, he, g2, g3, g4, g5, g6, g7⟩
  · refine Or.inl ⟨fun post h => preX post ?_, fun post n h => ?_⟩
    · refine And.intro ib (br_t xle ⟨ib, nm_r (e' := -1) (by rw [cb, g3]) ⟨ib, br_t (by rw [cb, g2]; decide) ?_⟩⟩)
      exact br_f (by decide) h
    · refine br_f k300 (preY post n _ ⟨ib, br_t (by rw [cb, g1]) h⟩)
  · refine Or.inr ⟨t, ht, Or.inl g4, fun post h => preX post ?_, fun post n h => ?_⟩
    · refine And.intro ib (br_t xle ⟨ib, nm_r (e' := nI t) (by rw [cb, g4]) ⟨ib, br_t (by rw [cb, g2]; decide) ?_⟩⟩)
      exact br_t (nI_pos' (by omega)) ⟨pk_in t 10 ht, nm_r (e' := a_place t) (by rw [nI_clamp (by omega)]) h⟩
    · refine br_f k300 (preY post n _ ⟨ib, br_f (by rw [cb, g1]; decide) ⟨ib, br_t (by rw [cb, g1]) ?_⟩⟩)
      exact And.intro ib (nm_r (e' := nI t) (by rw [cb, g5]) (nm_r (nI_1 k) h))
  · have iv : vp_in (nI v) 4 := pk_in v 4 hv
    have cv : (nI v).toNatClampNeg = v := nI_clamp (by omega)
    have xt : a_test (nI b).toNatClampNeg = nI v := by rw [cb, g2]
    have yt : a_tests (nI b).toNatClampNeg = nI v := by rw [cb, g3]
    by_cases hp : (0 : Int32) < var' v
    · refine Or.inr ⟨t, ht, Or.inl g4, fun post h => preX post ?_, fun post n h => ?_⟩
      · refine And.intro ib (br_t xle ⟨ib, nm_r (e' := nI t) (by rw [cb, g4]) ⟨ib, br_f (by rw [xt]; exact nI_pos (by omega)) ⟨ib, by rw [xt]; exact iv, br_t (by rw [xt, cv]; exact hp) ?_⟩⟩⟩)
        exact br_t (nI_pos' (by omega)) ⟨pk_in t 10 ht, nm_r (e' := a_place t) (by rw [nI_clamp (by omega)]) h⟩
      · refine br_f k300 (preY post n _ ⟨ib, br_f (by rw [cb, g1]; decide) ⟨ib, br_f (by rw [cb, g1]; decide) ⟨ib, by rw [yt]; exact iv, br_f (by rw [yt, cv]; exact Int32.not_le.mpr hp) ?_⟩⟩⟩)
        exact And.intro ib (nm_r (e' := nI t) (by rw [cb, g5]) (nm_r (nI_1 k) h))
    · refine Or.inr ⟨e, he, Or.inr g6, fun post h => preX post ?_, fun post n h => ?_⟩
      · refine And.intro ib (br_t xle ⟨ib, nm_r (e' := nI t) (by rw [cb, g4]) ⟨ib, br_f (by rw [xt]; exact nI_pos (by omega)) ⟨ib, by rw [xt]; exact iv, br_f (by rw [xt, cv]; exact hp) ⟨ib, nm_r (e' := nI e) (by rw [cb, g6]) ?_⟩⟩⟩⟩)
        exact br_t (nI_pos' (by omega)) ⟨pk_in e 10 he, nm_r (e' := a_place e) (by rw [nI_clamp (by omega)]) h⟩
      · refine br_f k300 (preY post n _ ⟨ib, br_f (by rw [cb, g1]; decide) ⟨ib, br_f (by rw [cb, g1]; decide) ⟨ib, by rw [yt]; exact iv, br_t (by rw [yt, cv]; exact Int32.not_lt.mp hp) ⟨ib, nm_r (e' := nI e) (by rw [cb, g7]) (nm_r (nI_1 k) h)⟩⟩⟩⟩)
end
end
section
/-! ===== from word to word: the label's block is found ===== -/
section
variable {f_ready f_count f_loops f_length f_label f_entered f_ended f_written : Int32} {a_size a_op a_target a_operand a_test a_first a_second a_order a_place a_walkStack a_walkSide a_from a_to a_word a_with a_loopStart a_var a_seen a_lastOut : Nat → Int32}
theorem pf_skip {post : Int32 → SX → Prop} {c L len q pc : Nat} {cp : Nat → Nat} (hc : c ≤ 10) (hlen : len ≤ 30) (hF : lo_F c L a_from a_to) (hK : em_K c L len a_from a_to a_word a_with a_loopStart cp (fun _ => True) (fun _ => True)) (hq : q < c) (hpc : pc < len) (hne : pc ≠ cp q) (hrep : ∀ l a e, l < L → a_word pc = 2 → a_with pc = nI l → a < 10 → a_from l = nI a → e < 10 → a_to l = nI e → ¬ (a ≤ q ∧ q ≤ e)) (hp : post (nI (pc + 1)) (f_ready, f_count, f_loops, f_length, nI q, f_entered, f_ended, f_written, a_size, a_op, a_target, a_operand, a_test, a_first, a_second, a_order, a_place, a_walkStack, a_walkSide, a_from, a_to, a_word, a_with, a_loopStart, a_var, a_seen, a_lastOut)) : wpX_perform post (f_ready, f_count, f_loops, f_length, nI q, f_entered, f_ended, f_written, a_size, a_op, a_target, a_operand, a_test, a_first, a_second, a_order, a_place, a_walkStack, a_walkSide, a_from, a_to, a_word, a_with, a_loopStart, a_var, a_seen, a_lastOut) (nI pc) (a_with pc) := by
  have hL := lo_le hF hc
  have ipc : vp_in (nI pc) 64 := pk_in pc 64 (by omega)
  have cpc : (nI pc).toNatClampNeg = pc := nI_clamp (by omega)
  rw [← nI_1] at hp
  rcases hK.2.2.1 pc hpc with z | ⟨z, x, hx, ex, cx⟩ | ⟨z, l, hl, el, _⟩
  · exact And.intro ipc (br_f (by rw [cpc, z]; decide) ⟨ipc, br_f (by rw [cpc, z]; decide) hp⟩)
  · refine And.intro ipc (br_t (by rw [cpc, z]) (br_f ?_ hp))
    rw [ex]
    refine ri_ne (fun e => hne ?_)
    rw [e]
    exact cx.symm
  · obtain ⟨a, e, h1, h2, h3, h4⟩ := hF.1 l hl
    have hn := hrep l a e hl z el (by omega) h3 (by omega) h4
    have il : vp_in (nI l) 20 := pk_in l 20 (by omega)
    have cl : (nI l).toNatClampNeg = l := nI_clamp (by omega)
    rw [el]
    refine And.intro ipc (br_f (by rw [cpc, z]; decide) ⟨ipc, br_t (by rw [cpc, z]) ⟨il, ?_⟩⟩)
    rw [cl]
    refine pk_lt q a (fun _ => hp) (fun haq => ⟨il, pk_lt e q (fun _ => hp) (fun hqe => absurd ⟨haq, hqe⟩ hn) h4⟩) rfl h3
theorem pf_jump {post : Int32 → SX → Prop} {L q pc l a e s : Nat} (hL : L ≤ 10) (hq : q < 10) (hpc : pc < 30) (hl : l < L) (z : a_word pc = 2) (el : a_with pc = nI l) (ha : a ≤ q) (h3 : a_from l = nI a) (he : q ≤ e) (he10 : e < 10) (h4 : a_to l = nI e) (hs : a_loopStart l = nI s) (hp : post (nI (s + 1)) (f_ready, f_count, f_loops, f_length, nI q, f_entered, f_ended, f_written, a_size, a_op, a_target, a_operand, a_test, a_first, a_second, a_order, a_place, a_walkStack, a_walkSide, a_from, a_to, a_word, a_with, a_loopStart, a_var, a_seen, a_lastOut)) : wpX_perform post (f_ready, f_count, f_loops, f_length, nI q, f_entered, f_ended, f_written, a_size, a_op, a_target, a_operand, a_test, a_first, a_second, a_order, a_place, a_walkStack, a_walkSide, a_from, a_to, a_word, a_with, a_loopStart, a_var, a_seen, a_lastOut) (nI pc) (a_with pc) := by
  have ipc : vp_in (nI pc) 64 := pk_in pc 64 (by omega)
  have cpc : (nI pc).toNatClampNeg = pc := nI_clamp (by omega)
  have il : vp_in (nI l) 20 := pk_in l 20 (by omega)
  have cl : (nI l).toNatClampNeg = l := nI_clamp (by omega)
  rw [← nI_1] at hp
  rw [el]
  refine And.intro ipc (br_f (by rw [cpc, z]; decide) ⟨ipc, br_t (by rw [cpc, z]) ⟨il, ?_⟩⟩)
  rw [cl, hs]
  exact pk_lt q a (fun h => absurd ha (by omega)) (fun _ => ⟨il, pk_lt e q (fun h => absurd he (by omega)) (fun _ => ⟨il, hp⟩) h4⟩) rfl h3
theorem rn_1 {post : Int32 → SX → Prop} {len q k pc s n : Nat} (hlen : len ≤ 30) (hq : q < 10) (hk : k < 300) (hs : s < 20000) (hpc : pc < len) (h : wpX_perform (fun r u => match u with | (f_ready, f_count, f_loops, f_length, f_label, f_entered, f_ended, f_written, a_size, a_op, a_target, a_operand, a_test, a_first, a_second, a_order, a_place, a_walkStack, a_walkSide, a_from, a_to, a_word, a_with, a_loopStart, a_var, a_seen, a_lastOut) => ∀ x2, x2 = nI s + 1 → wX_run_44 post n r x2 f_ready f_count f_loops f_length f_label f_entered f_ended f_written a_size a_op a_target a_operand a_test a_first a_second a_order a_place a_walkStack a_walkSide a_from a_to a_word a_with a_loopStart a_var a_seen a_lastOut) (f_ready, f_count, f_loops, nI len, nI q, nI k, f_ended, f_written, a_size, a_op, a_target, a_operand, a_test, a_first, a_second, a_order, a_place, a_walkStack, a_walkSide, a_from, a_to, a_word, a_with, a_loopStart, a_var, a_seen, a_lastOut) (nI pc) (a_with pc)) : wX_run_44 post (n + 1) (nI pc) (nI s) f_ready f_count f_loops (nI len) (nI q) (nI k) f_ended f_written a_size a_op a_target a_operand a_test a_first a_second a_order a_place a_walkStack a_walkSide a_from a_to a_word a_with a_loopStart a_var a_seen a_lastOut := by
  refine br_f (nI_ge (b := 20000) hs (by decide)) (br_f (nI_ge hpc (by omega)) (br_f (nI_pos (by omega)) (br_f (nI_ge (b := 300) hk (by decide)) ⟨pk_in pc 64 (by omega), ?_⟩)))
  rw [nI_clamp (n := pc) (by omega)]
  exact h
theorem rn_fwd {post : Int32 → SX → Prop} {c L len q k : Nat} {cp : Nat → Nat} (hc : c ≤ 10) (hlen : len ≤ 30) (hF : lo_F c L a_from a_to) (hK : em_K c L len a_from a_to a_word a_with a_loopStart cp (fun _ => True) (fun _ => True)) (hq : q < c) (hk : k < 300) : ∀ d n pc s : Nat, n + s = 20001 → pc + d = cp q → s + d < 20000 → (∀ n', n' + (s + d) = 20001 → wX_run_44 post n' (nI (cp q)) (nI (s + d)) f_ready f_count f_loops (nI len) (nI q) (nI k) f_ended f_written a_size a_op a_target a_operand a_test a_first a_second a_order a_place a_walkStack a_walkSide a_from a_to a_word a_with a_loopStart a_var a_seen a_lastOut) → wX_run_44 post n (nI pc) (nI s) f_ready f_count f_loops (nI len) (nI q) (nI k) f_ended f_written a_size a_op a_target a_operand a_test a_first a_second a_order a_place a_walkStack a_walkSide a_from a_to a_word a_with a_loopStart a_var a_seen a_lastOut := by
  intro d
  induction d with
  | zero =>
    intro n pc s hn hpc hs h
    have e : pc = cp q := by omega
    rw [e]
    exact h n hn
  | succ d ih =>
    intro n pc s hn hpc hs h
    obtain ⟨n', rfl⟩ : ∃ n', n = n' + 1 := ⟨n - 1, by omega⟩
    have hl := (hK.2.1 q hq).1
    refine rn_1 hlen (by omega) hk (by omega) (by omega) (pf_skip hc hlen hF hK hq (by omega) (by omega) ?_ (nm_r (nI_1 s) (ih n' (pc + 1) (s + 1) (by omega) (by omega) (by omega) ?_)))
    · intro l a e hlL hz hw ha h3 he h4
      rcases hK.2.2.1 pc (by omega) with z | ⟨z, _⟩ | ⟨_, l', hl', el', e', he', et', hh⟩
      · rw [z] at hz; exact absurd hz (by decide)
      · rw [z] at hz; exact absurd hz (by decide)
      · have hL := lo_le hF hc
        have ell : l' = l := ri_inj (el'.symm.trans hw)
        subst ell
        have ee : e' = e := ri_inj (et'.symm.trans h4)
        have := hh q hq (by omega)
        omega
    · intro n2 hn2
      have e : s + 1 + d = s + (d + 1) := by omega
      rw [e]
      exact h n2 (by omega)
theorem rn_find {post : Int32 → SX → Prop} {c L len q k r : Nat} {cp : Nat → Nat} (hc : c ≤ 10) (hlen : len ≤ 30) (hF : lo_F c L a_from a_to) (hK : em_K c L len a_from a_to a_word a_with a_loopStart cp (fun _ => True) (fun _ => True)) (hq : q < c) (hk : k < 300) (hr : r < len) (hrep : ∃ l e, l < L ∧ a_word r = 2 ∧ a_with r = nI l ∧ a_from l = nI q ∧ q ≤ e ∧ e < 10 ∧ a_to l = nI e) : ∀ d n pc s : Nat, n + s = 20001 → pc + d = r → s + d + 31 < 20000 → (∀ n' s', n' + s' = 20001 → s' ≤ s + d + 31 → wX_run_44 post n' (nI (cp q)) (nI s') f_ready f_count f_loops (nI len) (nI q) (nI k) f_ended f_written a_size a_op a_target a_operand a_test a_first a_second a_order a_place a_walkStack a_walkSide a_from a_to a_word a_with a_loopStart a_var a_seen a_lastOut) → wX_run_44 post n (nI pc) (nI s) f_ready f_count f_loops (nI len) (nI q) (nI k) f_ended f_written a_size a_op a_target a_operand a_test a_first a_second a_order a_place a_walkStack a_walkSide a_from a_to a_word a_with a_loopStart a_var a_seen a_lastOut := by
  have hL := lo_le hF hc
  intro d
  induction d with
  | zero =>
    intro n pc s hn hpc hs h
    obtain ⟨l, e, hl, z, el, h3, hqe, he, h4⟩ := hrep
    have e0 : pc = r := by omega
    subst e0
    obtain ⟨n', rfl⟩ : ∃ n', n = n' + 1 := ⟨n - 1, by omega⟩
    obtain ⟨s0, hs0, _, hcp⟩ := hK.2.2.2.1 l hl trivial
    have hle := hcp q (by omega) h3 q hq (by omega)
    have hl2 := (hK.2.1 q hq).1
    refine rn_1 hlen (by omega) hk (by omega) hr (pf_jump hL (by omega) (by omega) hl z el (Nat.le_refl q) h3 hqe he h4 hs0 (nm_r (nI_1 s) ?_))
    exact rn_fwd hc hlen hF hK hq hk (cp q - (s0 + 1)) n' (s0 + 1) (s + 1) (by omega) (by omega) (by omega) (fun n2 hn2 => h n2 _ (by omega) (by omega))
  | succ d ih =>
    intro n pc s hn hpc hs h
    by_cases e0 : pc = cp q
    · rw [e0]
      exact h n s hn (by omega)
    · obtain ⟨n', rfl⟩ : ∃ n', n = n' + 1 := ⟨n - 1, by omega⟩
      by_cases hj : ∃ l a e, l < L ∧ a_word pc = 2 ∧ a_with pc = nI l ∧ a < 10 ∧ a_from l = nI a ∧ e < 10 ∧ a_to l = nI e ∧ (a ≤ q ∧ q ≤ e)
      · obtain ⟨l, a, e, hl, z, el, ha, h3, he, h4, haq, hqe⟩ := hj
        obtain ⟨s0, hs0, _, hcp⟩ := hK.2.2.2.1 l hl trivial
        have hle := hcp a ha h3 q hq haq
        have hl2 := (hK.2.1 q hq).1
        refine rn_1 hlen (by omega) hk (by omega) (by omega) (pf_jump hL (by omega) (by omega) hl z el haq h3 hqe he h4 hs0 (nm_r (nI_1 s) ?_))
        exact rn_fwd hc hlen hF hK hq hk (cp q - (s0 + 1)) n' (s0 + 1) (s + 1) (by omega) (by omega) (by omega) (fun n2 hn2 => h n2 _ (by omega) (by omega))
      · refine rn_1 hlen (by omega) hk (by omega) (by omega) (pf_skip hc hlen hF hK hq (by omega) e0 ?_ (nm_r (nI_1 s) (ih n' (pc + 1) (s + 1) (by omega) (by omega) (by omega) (fun n2 s2 h2 h3 => h n2 s2 h2 (by omega)))))
        intro l a e hl z el ha h3 he h4 hh
        exact hj ⟨l, a, e, hl, z, el, ha, h3, he, h4, hh⟩
/-- the word of the label's block lies ahead, or a loop that goes back to it ends ahead -/
def rn_A (L len q pc : Nat) (fr to wd wt : Nat → Int32) (cp : Nat → Nat) : Prop :=
  pc ≤ cp q ∨ ∃ r, r < len ∧ pc ≤ r ∧ ∃ l e, l < L ∧ wd r = 2 ∧ wt r = nI l ∧ fr l = nI q ∧ q ≤ e ∧ e < 10 ∧ to l = nI e
theorem rn_all {post : Int32 → SX → Prop} {c L len q k : Nat} {cp : Nat → Nat} (hc : c ≤ 10) (hlen : len ≤ 30) (hF : lo_F c L a_from a_to) (hK : em_K c L len a_from a_to a_word a_with a_loopStart cp (fun _ => True) (fun _ => True)) (hq : q < c) (hk : k < 300) {n pc s : Nat} (hA : rn_A L len q pc a_from a_to a_word a_with cp) (hn : n + s = 20001) (hs : s + 61 < 20000) (h : ∀ n' s', n' + s' = 20001 → s' ≤ s + 61 → wX_run_44 post n' (nI (cp q)) (nI s') f_ready f_count f_loops (nI len) (nI q) (nI k) f_ended f_written a_size a_op a_target a_operand a_test a_first a_second a_order a_place a_walkStack a_walkSide a_from a_to a_word a_with a_loopStart a_var a_seen a_lastOut) : wX_run_44 post n (nI pc) (nI s) f_ready f_count f_loops (nI len) (nI q) (nI k) f_ended f_written a_size a_op a_target a_operand a_test a_first a_second a_order a_place a_walkStack a_walkSide a_from a_to a_word a_with a_loopStart a_var a_seen a_lastOut := by
  rcases hA with hA | ⟨r, hr, hpr, hrep⟩
  · have hl2 := (hK.2.1 q hq).1
    exact rn_fwd hc hlen hF hK hq hk (cp q - pc) n pc s hn (by omega) (by omega) (fun n2 hn2 => h n2 _ hn2 (by omega))
  · exact rn_find hc hlen hF hK hq hk hr hrep (r - pc) n pc s hn (by omega) (by omega) (fun n2 s2 h2 h3 => h n2 s2 h2 (by omega))
end
section
variable {f_ready f_count f_loops f_length f_label f_entered f_ended f_written : Int32} {a_size a_op a_target a_operand a_test a_first a_second a_order a_place a_walkStack a_walkSide a_from a_to a_word a_with a_loopStart a_var a_seen a_lastOut : Nat → Int32} {a_ends a_tests a_thens a_elses a_recent : Nat → Int32}
/-- the two runs, block by block -/
theorem rn_main {c L len : Nat} {cp : Nat → Nat} (hlen : len ≤ 30) (hO : od_F a_first a_second c a_order a_place) (hF : lo_F c L a_from a_to) (hB : fl_B a_first a_second a_order a_place (lo_C L a_from a_to) c) (hK : em_K c L len a_from a_to a_word a_with a_loopStart cp (fun _ => True) (fun _ => True)) (hSz : ∀ b, b < 10 → ∃ sz, sz ≤ 3 ∧ a_size b = nI sz) (hOp : op_K a_op a_target a_operand) (hG : ∀ b, b < 10 → gk_G a_test a_first a_second a_ends a_tests a_thens a_elses b) : ∀ (j k q w b : Nat) (en : Int32) (var seen lo re : Nat → Int32), j + k = 300 → q < c → a_order q = nI b → b < 10 → w ≤ 3 * k → ou_O w lo re →
    ∃ (r lb et en' : Int32) (w' : Nat) (var' seen' lo' re' : Nat → Int32), w' ≤ 900 ∧ ou_O w' lo' re' ∧
      (∀ (post : Int32 → SX → Prop) (n pc s : Nat), n + s = 20001 → s ≤ 62 * k → rn_A L len q pc a_from a_to a_word a_with cp → post r (f_ready, f_count, f_loops, nI len, lb, et, en', nI w', a_size, a_op, a_target, a_operand, a_test, a_first, a_second, a_order, a_place, a_walkStack, a_walkSide, a_from, a_to, a_word, a_with, a_loopStart, var', seen', lo') → wX_run_44 post n (nI pc) (nI s) f_ready f_count f_loops (nI len) (nI q) (nI k) en (nI w) a_size a_op a_target a_operand a_test a_first a_second a_order a_place a_walkStack a_walkSide a_from a_to a_word a_with a_loopStart var seen lo) ∧
      (∀ post : Int32 → SY → Prop, post r (nI w', en', a_size, a_op, a_target, a_operand, a_ends, a_tests, a_thens, a_elses, var', re', seen') → wY_run_30 post (j + 1) (nI b) (nI k) (nI w) en a_size a_op a_target a_operand a_ends a_tests a_thens a_elses var re seen) := by
  have hc : c ≤ 10 := hO.2.1
  intro j
  induction j with
  | zero =>
    intro k q w b en var seen lo re hj hq hb hb10 hw hou
    have ek : k = 300 := by omega
    subst ek
    refine ⟨2, nI q, nI 300, en, w, var, seen, lo, re, by omega, hou, fun post n pc s hn hs hA h => ?_, fun post h => ?_⟩
    · obtain ⟨n', rfl⟩ : ∃ n', n = n' + 1 := ⟨n - 1, by omega⟩
      have fin : wX_run_94 post f_ready f_count f_loops (nI len) (nI q) (nI 300) en (nI w) a_size a_op a_target a_operand a_test a_first a_second a_order a_place a_walkStack a_walkSide a_from a_to a_word a_with a_loopStart var seen lo := br_t (nI_pos' (by omega)) h
      exact br_c (fun _ => fin) (fun _ => br_c (fun _ => fin) (fun _ => br_c (fun _ => fin) (fun _ => br_t (nI_le (a := 300) (b := 300) (by omega) (by decide)) fin)))
    · exact br_t (nI_le (a := 300) (b := 300) (by omega) (by decide)) h
  | succ j ih =>
    intro k q w b en var seen lo re hj hq hb hb10 hw hou
    obtain ⟨sz, hs3, hsz⟩ := hSz b hb10
    have cpc := hK.2.1 q hq
    have ic : vp_in (nI q) 10 := pk_in q 10 (by omega)
    have ordq : a_order (nI q).toNatClampNeg = nI b := by rw [nI_clamp (by omega), hb]
    obtain ⟨var', lo', re', w', hw', hou', hcase⟩ := en_all (f_ready := f_ready) (f_count := f_count) (f_loops := f_loops) (f_length := nI len) (f_label := nI q) (f_ended := en) (a_size := a_size) (a_op := a_op) (a_target := a_target) (a_operand := a_operand) (a_test := a_test) (a_first := a_first) (a_second := a_second) (a_order := a_order) (a_place := a_place) (a_walkStack := a_walkStack) (a_walkSide := a_walkSide) (a_from := a_from) (a_to := a_to) (a_word := a_word) (a_with := a_with) (a_loopStart := a_loopStart) (a_var := var) (a_seen := seen) (a_lastOut := lo) (a_ends := a_ends) (a_tests := a_tests) (a_thens := a_thens) (a_elses := a_elses) (a_recent := re) hb10 hsz hs3 hOp (hG b hb10) (w := w) (k := k) (by omega) (by omega) hou
    -- X at the word of the block
    have atX : ∀ (post : Int32 → SX → Prop) (lb : Int32) (pc s : Nat), s ≤ 62 * k → rn_A L len q pc a_from a_to a_word a_with cp → (∀ post : SX → Prop, post (f_ready, f_count, f_loops, nI len, lb, nI (k + 1), nI b, nI w', a_size, a_op, a_target, a_operand, a_test, a_first, a_second, a_order, a_place, a_walkStack, a_walkSide, a_from, a_to, a_word, a_with, a_loopStart, var', upd seen b (seen b + 1), lo') → wpX_enter post (f_ready, f_count, f_loops, nI len, nI q, nI k, en, nI w, a_size, a_op, a_target, a_operand, a_test, a_first, a_second, a_order, a_place, a_walkStack, a_walkSide, a_from, a_to, a_word, a_with, a_loopStart, var, seen, lo) (nI b)) → (∀ n' s', n' + s' = 20001 → s' ≤ s + 62 → wX_run_44 post n' (nI (cp q + 1)) (nI s') f_ready f_count f_loops (nI len) lb (nI (k + 1)) (nI b) (nI w') a_size a_op a_target a_operand a_test a_first a_second a_order a_place a_walkStack a_walkSide a_from a_to a_word a_with a_loopStart var' (upd seen b (seen b + 1)) lo') → ∀ n, n + s = 20001 → wX_run_44 post n (nI pc) (nI s) f_ready f_count f_loops (nI len) (nI q) (nI k) en (nI w) a_size a_op a_target a_operand a_test a_first a_second a_order a_place a_walkStack a_walkSide a_from a_to a_word a_with a_loopStart var seen lo := by
      intro post lb pc s hs hA hX hrest n hn
      refine rn_all hc hlen hF hK hq (by omega) hA hn (by omega) ?_
      intro n1 s1 hn1 hs1
      obtain ⟨n2, rfl⟩ : ∃ n2, n1 = n2 + 1 := ⟨n1 - 1, by omega⟩
      refine rn_1 hlen (by omega) (by omega) (by omega) cpc.1 ?_
      have icp : vp_in (nI (cp q)) 64 := pk_in (cp q) 64 (by omega)
      rw [cpc.2.2]
      refine And.intro icp (br_t (by rw [nI_clamp (by omega), cpc.2.1]) (br_t rfl ⟨ic, ?_⟩))
      rw [ordq]
      refine hX _ (nm_r (nI_1 s1) ?_)
      rw [nI_1]
      exact hrest n2 (s1 + 1) (by omega) (by omega)
    rcases hcase with ⟨hX, hY⟩ | ⟨t, ht, hE, hX, hY⟩
    · refine ⟨1, -1, nI (k + 1), nI b, w', var', upd seen b (seen b + 1), lo', re', by omega, hou', fun post n pc s hn hs hA h => atX post (-1) pc s hs hA hX ?_ n hn, fun post h => hY post (j + 1) h⟩
      intro n' s' hn' hs'
      obtain ⟨n2, rfl⟩ : ∃ n2, n' = n2 + 1 := ⟨n' - 1, by omega⟩
      have fin : wX_run_94 post f_ready f_count f_loops (nI len) (-1) (nI (k + 1)) (nI b) (nI w') a_size a_op a_target a_operand a_test a_first a_second a_order a_place a_walkStack a_walkSide a_from a_to a_word a_with a_loopStart var' (upd seen b (seen b + 1)) lo' := br_f (by decide) h
      exact br_c (fun _ => fin) (fun _ => br_c (fun _ => fin) (fun _ => br_t (by decide) fin))
    · obtain ⟨h1, h2, h3, h4, h5, h6, h7⟩ := hO
      have hbq : (a_order q).toNatClampNeg = b := by rw [hb, nI_clamp (by omega)]
      obtain ⟨q', hq', eq'⟩ := h6 q hq t ht (by rw [hbq]; exact hE)
      have epl : a_place t = nI q' := by
        have z := h4 q' hq'
        rw [eq', nI_clamp (by omega)] at z
        exact z
      rw [epl] at hX
      have hA' : rn_A L len q' (cp q + 1) a_from a_to a_word a_with cp := by
        by_cases hlt : q < q'
        · exact Or.inl (hK.1 q q' hlt hq')
        · have hC : lo_C L a_from a_to q' q := by
            have hBq := hB q hq
            rw [hbq] at hBq
            rcases hE with z | z
            · exact hBq.1 t ht z q' (by omega) epl (by omega)
            · exact hBq.2 t ht z q' (by omega) epl (by omega)
          obtain ⟨l, hl, hfl, e, hqe, he, htl⟩ := hC
          obtain ⟨r, hr, hwr, hwt, e2, he2, ht2, hcp⟩ := hK.2.2.2.2 l hl trivial
          have ee : e2 = e := ri_inj (ht2.symm.trans htl)
          have := hcp q (by omega)
          exact Or.inr ⟨r, hr, by omega, l, e, hl, hwr, hwt, hfl, by omega, he, htl⟩
      obtain ⟨r, lb, et, en', w2, var2, seen2, lo2, re2, hw2, hou2, hX2, hY2⟩ := ih (k + 1) q' w' t (nI b) var' (upd seen b (seen b + 1)) lo' re' (by omega) hq' eq' ht (by omega) hou'
      refine ⟨r, lb, et, en', w2, var2, seen2, lo2, re2, hw2, hou2, fun post n pc s hn hs hA h => atX post (nI q') pc s hs hA hX ?_ n hn, fun post h => hY post (j + 1) (hY2 post h)⟩
      intro n' s' hn' hs'
      exact hX2 post n' (cp q + 1) s' hn' (by omega) hA' h
end
end
section
/-! ===== the reference's count of reachable blocks ===== -/
def re_L (first second : Nat → Int32) (m : Int32) : Prop := ∀ S, gr_C first second S → ∀ t, t < 10 → bt m t = true → S t
def re_I (first second : Nat → Int32) (m0 : Int32) (b : Nat) (m : Int32) : Prop :=
  (∀ t, t < 10 → bt m0 t = true → bt m t = true) ∧
  (∀ b', b' < b → bt m0 b' = true → ∀ t, t < 10 → gr_E first second b' t → bt m t = true) ∧
  re_L first second m
theorem re_or {first second : Nat → Int32} {m0 m : Int32} {b b1 t : Nat} (h : re_I first second m0 b m) (hb : b1 < 10) (hm : bt m b1 = true) (ht : t < 10) (hE : gr_E first second b1 t) : re_I first second m0 b (m ||| ((1 : Int32) <<< (nI t &&& 31))) ∧ bt (m ||| ((1 : Int32) <<< (nI t &&& 31))) t = true ∧ ∀ i, i < 10 → bt m i = true → bt (m ||| ((1 : Int32) <<< (nI t &&& 31))) i = true := by
  obtain ⟨h1, h2, h3⟩ := h
  have hset : ∀ i, i < 10 → bt (m ||| ((1 : Int32) <<< (nI t &&& 31))) i = (bt m i || decide (i = t)) := fun i hi => rb_set m t (by omega) i (by omega)
  have up : ∀ i, i < 10 → bt m i = true → bt (m ||| ((1 : Int32) <<< (nI t &&& 31))) i = true := by
    intro i hi e
    rw [hset i hi, e]
    rfl
  refine ⟨⟨fun i hi z => up i hi (h1 i hi z), fun b' hb' z i hi e => up i hi (h2 b' hb' z i hi e), ?_⟩, ?_, up⟩
  · intro S hS i hi e
    rw [hset i hi, Bool.or_eq_true, decide_eq_true_iff] at e
    rcases e with e | e
    · exact h3 S hS i hi e
    · rw [e]
      exact hS.2 b1 hb (h3 S hS b1 hb hm) t ht hE
  · rw [hset t ht]
    simp
theorem re_nx {first second : Nat → Int32} {m0 m : Int32} {b : Nat} (h : re_I first second m0 b m) (hn : bt m0 b = true → ∀ t, t < 10 → gr_E first second b t → bt m t = true) : re_I first second m0 (b + 1) m := by
  obtain ⟨h1, h2, h3⟩ := h
  refine ⟨h1, ?_, h3⟩
  intro b' hb' z
  by_cases e : b' = b
  · rw [e]
    rw [e] at z
    exact hn z
  · exact h2 b' (by omega) z
section
variable {f_ready f_count f_loops f_length f_label f_entered f_ended f_written : Int32} {a_size a_op a_target a_operand a_test a_first a_second a_order a_place a_walkStack a_walkSide a_from a_to a_word a_with a_loopStart a_var a_seen a_lastOut : Nat → Int32} {a_ends a_tests a_thens a_elses a_recent : Nat → Int32}
theorem re_12 {post : Int32 → Prop} {J : Int32 → Int32 → Prop} {k : Nat} {m0 : Int32} (hG : ∀ b, b < 10 → gk_G a_test a_first a_second a_ends a_tests a_thens a_elses b) (hJ : ∀ m, re_I a_first a_second m0 10 m → J m (nI (k + 1))) : ∀ (n b : Nat) (m : Int32), n + b = 11 → b ≤ 10 → re_I a_first a_second m0 b m → wY_reachable_12 post J (nI k) f_written f_ended a_size a_op a_target a_operand a_ends a_tests a_thens a_elses a_var a_recent a_seen n m (nI b) := by
  intro n
  induction n with
  | zero =>
    intro b m hn hb
    omega
  | succ n ih =>
    intro b m hn hb hI
    by_cases hb10 : b = 10
    · subst hb10
      exact br_t (nI_le (a := 10) (by omega) (by decide)) (nm_r (nI_1 k) (hJ m hI))
    · have hlt : b < 10 := by omega
      have ib : vp_in (nI b) 10 := pk_in b 10 hlt
      have cb : (nI b).toNatClampNeg = b := nI_clamp (by omega)
      refine br_f (nI_ge (b := 10) (by omega) (by decide)) ?_
      by_cases hm : bt m b = true
      · refine br_t (by rw [rb_bit m b (by omega), if_pos hm]) ⟨ib, ?_⟩
        rcases hG b hlt with ⟨g1, g2, g3, g4⟩ | ⟨g1, g2, g3, t, ht, g4, g5⟩ | ⟨g1, v, t, e, hv, ht, he, g2, g3, g4, g5, g6, g7⟩
        · refine br_t (by rw [cb, g1]; decide) (nm_r (nI_1 b) (ih (b + 1) m (by omega) (by omega) (re_nx hI ?_)))
          intro _ t ht hE
          rcases hE with z | z
          · exact absurd (g3.symm.trans z) (ri_m1 t)
          · exact absurd (g4.symm.trans z) (ri_m1 t)
        · obtain ⟨hI1, hb1, up1⟩ := re_or hI hlt hm ht (Or.inl g4)
          refine br_f (by rw [cb, g1]; decide) ⟨ib, nm_r (e' := m ||| ((1 : Int32) <<< (nI t &&& 31))) (by rw [cb, g5]) ⟨ib, br_f (by rw [cb, g1]; decide) (nm_r (nI_1 b) (ih (b + 1) _ (by omega) (by omega) (re_nx hI1 ?_)))⟩⟩
          intro _ t' ht' hE
          rcases hE with z | z
          · have et : t = t' := ri_inj (g4.symm.trans z)
            rw [← et]
            exact hb1
          · exact absurd (g3.symm.trans z) (ri_m1 t')
        · obtain ⟨hI1, hb1, up1⟩ := re_or hI hlt hm ht (Or.inl g4)
          obtain ⟨hI2, hb2, up2⟩ := re_or hI1 hlt (up1 b hlt hm) he (Or.inr g6)
          refine br_f (by rw [cb, g1]; decide) ⟨ib, nm_r (e' := m ||| ((1 : Int32) <<< (nI t &&& 31))) (by rw [cb, g5]) ⟨ib, br_t (by rw [cb, g1]) ⟨ib, nm_r (e' := m ||| ((1 : Int32) <<< (nI t &&& 31)) ||| ((1 : Int32) <<< (nI e &&& 31))) (by rw [cb, g7]) (nm_r (nI_1 b) (ih (b + 1) _ (by omega) (by omega) (re_nx hI2 ?_)))⟩⟩⟩
          intro _ t' ht' hE
          rcases hE with z | z
          · have et : t = t' := ri_inj (g4.symm.trans z)
            rw [← et]
            exact up2 t ht hb1
          · have et : e = t' := ri_inj (g6.symm.trans z)
            rw [← et]
            exact hb2
      · refine br_f (by rw [rb_bit m b (by omega), if_neg hm]; decide) (nm_r (nI_1 b) (ih (b + 1) m (by omega) (by omega) (re_nx hI ?_)))
        intro z
        exact absurd (hI.1 b hlt z) hm
theorem re_88 {post : Int32 → Prop} {m : Int32} (h : post (nI (rc_n (bt m) 10))) : ∀ n b : Nat, n + b = 11 → b ≤ 10 → wY_reachable_88 post m f_written f_ended a_size a_op a_target a_operand a_ends a_tests a_thens a_elses a_var a_recent a_seen n (nI (rc_n (bt m) b)) (nI b) := by
  intro n
  induction n with
  | zero =>
    intro b hn hb
    omega
  | succ n ih =>
    intro b hn hb
    by_cases hb10 : b = 10
    · subst hb10
      exact br_t (nI_le (a := 10) (by omega) (by decide)) h
    · refine br_f (nI_ge (b := 10) (by omega) (by decide)) (nm_r (e' := nI (rc_n (bt m) (b + 1))) ?_ (nm_r (nI_1 b) (ih (b + 1) (by omega) (by omega))))
      rw [rb_bit m b (by omega)]
      show _ = nI (rc_n (bt m) b + (if bt m b = true then 1 else 0))
      by_cases hm : bt m b = true
      · rw [if_pos hm, if_pos hm, nI_1]
      · rw [if_neg hm, if_neg hm, Int32.add_zero, Nat.add_zero]
def re_cl (first second : Nat → Int32) (m : Int32) : Prop := ∀ b, b < 10 → bt m b = true → ∀ t, t < 10 → gr_E first second b t → bt m t = true
theorem re_4 {post : Int32 → Prop} (hG : ∀ b, b < 10 → gk_G a_test a_first a_second a_ends a_tests a_thens a_elses b) (h : ∀ m, bt m 0 = true → re_L a_first a_second m → re_cl a_first a_second m → post (nI (rc_n (bt m) 10))) : ∀ (n k : Nat) (m : Int32), n + k = 11 → k ≤ 10 → bt m 0 = true → re_L a_first a_second m → (re_cl a_first a_second m ∨ k + 1 ≤ rc_n (bt m) 10) → wY_reachable_4 post f_written f_ended a_size a_op a_target a_operand a_ends a_tests a_thens a_elses a_var a_recent a_seen n m (nI k) := by
  intro n
  induction n with
  | zero =>
    intro k m hn hk
    omega
  | succ n ih =>
    intro k m hn hk h0 hL hC
    have hle := rc_le (bt m) 10
    by_cases hk10 : k = 10
    · subst hk10
      have hcl : re_cl a_first a_second m := hC.resolve_right (by omega)
      exact br_t (nI_le (a := 10) (by omega) (by decide)) (Exists.intro 11 (re_88 (h m h0 hL hcl) 11 0 (by omega) (by omega)))
    · refine br_f (nI_ge (b := 10) (by omega) (by decide)) (Exists.intro 11 (re_12 (m0 := m) hG ?_ 11 0 m (by omega) (by omega) ⟨fun _ _ z => z, fun b' hb' => absurd hb' (by omega), hL⟩))
      intro m' hI
      obtain ⟨i1, i2, i3⟩ := hI
      have same : (∀ t, t < 10 → bt m' t = true → bt m t = true) → re_cl a_first a_second m' := fun hs b hb z t ht hE => i2 b hb (hs b hb z) t ht hE
      refine ih (k + 1) m' (by omega) (by omega) (i1 0 (by omega) h0) i3 ?_
      rcases hC with hC | hC
      · exact Or.inl (same (fun t ht z => i3 (fun t => bt m t = true) ⟨h0, fun b hb z t ht hE => hC b hb z t ht hE⟩ t ht z))
      · by_cases hg : rc_n (bt m') 10 ≤ rc_n (bt m) 10
        · exact Or.inl (same (rc_eq 10 i1 hg))
        · exact Or.inr (by omega)
theorem re_wp {post : Int32 → Prop} {c : Nat} (hG : ∀ b, b < 10 → gk_G a_test a_first a_second a_ends a_tests a_thens a_elses b) (hO : od_F a_first a_second c a_order a_place) (h : post (nI c)) : wpY_reachable post (f_written, f_ended, a_size, a_op, a_target, a_operand, a_ends, a_tests, a_thens, a_elses, a_var, a_recent, a_seen) := by
  have b1 : ∀ t, t < 10 → (bt 1 t = true ↔ t = 0) := by
    intro t ht
    rw [rb_one t (by omega), decide_eq_true_iff]
  refine Exists.intro 11 (re_4 hG ?_ 11 0 1 (by omega) (by omega) ((b1 0 (by omega)).mpr rfl) ?_ (Or.inr ?_))
  · intro m h0 hL hcl
    obtain ⟨h1, h2, h3, h4, h5, h6, h7⟩ := hO
    have e : rc_n (bt m) 10 = c := by
      refine rc_img (f := fun p => (a_order p).toNatClampNeg) c (fun p hp => (ri_cl (h3 p hp) (by decide)).2) ?_ (bt m) ?_
      · intro i j hij hj e
        have e' : (a_order i).toNatClampNeg = (a_order j).toNatClampNeg := e
        have z := h4 i (by omega)
        rw [e', h4 j hj] at z
        have := ri_inj z
        omega
      · intro t ht
        constructor
        · intro z
          refine hL (fun t => ∃ i, i < c ∧ (a_order i).toNatClampNeg = t) ⟨⟨0, by omega, by rw [h5]; rfl⟩, ?_⟩ t ht z
          rintro b hb ⟨i, hi, e⟩ t' ht' hE
          rw [← e] at hE
          obtain ⟨q, hq, eq⟩ := h6 i hi t' ht' hE
          exact ⟨q, hq, by rw [eq, nI_clamp (by omega)]⟩
        · rintro ⟨i, hi, e⟩
          have z := h7 (fun t => bt m t = true) ⟨h0, fun b hb z t ht hE => hcl b hb z t ht hE⟩ i hi
          have e' : (a_order i).toNatClampNeg = t := e
          rw [e'] at z
          exact z
    rw [e]
    exact h
  · intro S hS t ht e
    rw [(b1 t ht).mp e]
    exact hS.1
  · decide +kernel
end
end
section
/-! ===== the relation ===== -/
def rl_K (w : Nat) (f_ready f_count f_loops f_length : Int32) (a_size a_op a_target a_operand a_test a_first a_second a_order a_place a_from a_to a_word a_with a_loopStart a_lastOut a_ends a_tests a_thens a_elses a_recent : Nat → Int32) : Prop :=
  w ≤ 900 ∧ ou_O w a_lastOut a_recent ∧ (∀ b, b < 10 → ∃ sz, sz ≤ 3 ∧ a_size b = nI sz) ∧ op_K a_op a_target a_operand ∧
  (∀ b, b < 10 → gk_G a_test a_first a_second a_ends a_tests a_thens a_elses b) ∧
  (f_ready = 0 ∨ pp_P a_first a_second f_count f_loops f_length a_order a_place a_from a_to a_word a_with a_loopStart)
/-- both keep the same assignments, variables, visits, last block, outputs; the ends of blocks in two forms; the code, if ready, is that of the graph -/
def i_Rel (k : Nat) (u : SX) (v : SY) : Prop := ∃ (f_ready f_count f_loops f_length f_label f_entered f_ended : Int32) (a_size a_op a_target a_operand a_test a_first a_second a_order a_place a_walkStack a_walkSide a_from a_to a_word a_with a_loopStart a_var a_seen a_lastOut a_ends a_tests a_thens a_elses a_recent : Nat → Int32) (w : Nat), u = (f_ready, f_count, f_loops, f_length, f_label, f_entered, f_ended, nI w, a_size, a_op, a_target, a_operand, a_test, a_first, a_second, a_order, a_place, a_walkStack, a_walkSide, a_from, a_to, a_word, a_with, a_loopStart, a_var, a_seen, a_lastOut) ∧ v = (nI w, f_ended, a_size, a_op, a_target, a_operand, a_ends, a_tests, a_thens, a_elses, a_var, a_recent, a_seen) ∧ rl_K w f_ready f_count f_loops f_length a_size a_op a_target a_operand a_test a_first a_second a_order a_place a_from a_to a_word a_with a_loopStart a_lastOut a_ends a_tests a_thens a_elses a_recent
theorem rl_el {k : Nat} {u : SX} {v : SY} {P : SX → SY → Prop} (h : ∀ (f_ready f_count f_loops f_length f_label f_entered f_ended : Int32) (a_size a_op a_target a_operand a_test a_first a_second a_order a_place a_walkStack a_walkSide a_from a_to a_word a_with a_loopStart a_var a_seen a_lastOut a_ends a_tests a_thens a_elses a_recent : Nat → Int32) (w : Nat), rl_K w f_ready f_count f_loops f_length a_size a_op a_target a_operand a_test a_first a_second a_order a_place a_from a_to a_word a_with a_loopStart a_lastOut a_ends a_tests a_thens a_elses a_recent → P (f_ready, f_count, f_loops, f_length, f_label, f_entered, f_ended, nI w, a_size, a_op, a_target, a_operand, a_test, a_first, a_second, a_order, a_place, a_walkStack, a_walkSide, a_from, a_to, a_word, a_with, a_loopStart, a_var, a_seen, a_lastOut) (nI w, f_ended, a_size, a_op, a_target, a_operand, a_ends, a_tests, a_thens, a_elses, a_var, a_recent, a_seen)) (I : i_Rel k u v) : P u v := by
  unfold i_Rel at I
  refine Exists.elim I (fun f_ready I => ?_)
  refine Exists.elim I (fun f_count I => ?_)
  refine Exists.elim I (fun f_loops I => ?_)
  refine Exists.elim I (fun f_length I => ?_)
  refine Exists.elim I (fun f_label I => ?_)
  refine Exists.elim I (fun f_entered I => ?_)
  refine Exists.elim I (fun f_ended I => ?_)
  refine Exists.elim I (fun a_size I => ?_)
  refine Exists.elim I (fun a_op I => ?_)
  refine Exists.elim I (fun a_target I => ?_)
  refine Exists.elim I (fun a_operand I => ?_)
  refine Exists.elim I (fun a_test I => ?_)
  refine Exists.elim I (fun a_first I => ?_)
  refine Exists.elim I (fun a_second I => ?_)
  refine Exists.elim I (fun a_order I => ?_)
  refine Exists.elim I (fun a_place I => ?_)
  refine Exists.elim I (fun a_walkStack I => ?_)
  refine Exists.elim I (fun a_walkSide I => ?_)
  refine Exists.elim I (fun a_from I => ?_)
  refine Exists.elim I (fun a_to I => ?_)
  refine Exists.elim I (fun a_word I => ?_)
  refine Exists.elim I (fun a_with I => ?_)
  refine Exists.elim I (fun a_loopStart I => ?_)
  refine Exists.elim I (fun a_var I => ?_)
  refine Exists.elim I (fun a_seen I => ?_)
  refine Exists.elim I (fun a_lastOut I => ?_)
  refine Exists.elim I (fun a_ends I => ?_)
  refine Exists.elim I (fun a_tests I => ?_)
  refine Exists.elim I (fun a_thens I => ?_)
  refine Exists.elim I (fun a_elses I => ?_)
  refine Exists.elim I (fun a_recent I => ?_)
  refine Exists.elim I (fun w I => ?_)
  rw [I.1, I.2.1]
  exact h f_ready f_count f_loops f_length f_label f_entered f_ended a_size a_op a_target a_operand a_test a_first a_second a_order a_place a_walkStack a_walkSide a_from a_to a_word a_with a_loopStart a_var a_seen a_lastOut a_ends a_tests a_thens a_elses a_recent w I.2.2
section
variable {f_ready f_count f_loops f_length f_label f_entered f_ended f_written : Int32} {a_size a_op a_target a_operand a_test a_first a_second a_order a_place a_walkStack a_walkSide a_from a_to a_word a_with a_loopStart a_var a_seen a_lastOut : Nat → Int32} {a_ends a_tests a_thens a_elses a_recent : Nat → Int32}
theorem rl_in {k w : Nat} (h : rl_K w f_ready f_count f_loops f_length a_size a_op a_target a_operand a_test a_first a_second a_order a_place a_from a_to a_word a_with a_loopStart a_lastOut a_ends a_tests a_thens a_elses a_recent) : i_Rel k (f_ready, f_count, f_loops, f_length, f_label, f_entered, f_ended, nI w, a_size, a_op, a_target, a_operand, a_test, a_first, a_second, a_order, a_place, a_walkStack, a_walkSide, a_from, a_to, a_word, a_with, a_loopStart, a_var, a_seen, a_lastOut) (nI w, f_ended, a_size, a_op, a_target, a_operand, a_ends, a_tests, a_thens, a_elses, a_var, a_recent, a_seen) :=
  ⟨f_ready, f_count, f_loops, f_length, f_label, f_entered, f_ended, a_size, a_op, a_target, a_operand, a_test, a_first, a_second, a_order, a_place, a_walkStack, a_walkSide, a_from, a_to, a_word, a_with, a_loopStart, a_var, a_seen, a_lastOut, a_ends, a_tests, a_thens, a_elses, a_recent, w, rfl, rfl, h⟩
end
theorem gk_w {tst fst snd ends tests thens elses : Nat → Int32} (h : ∀ b, b < 10 → gk_G tst fst snd ends tests thens elses b) : gr_W fst ∧ gr_W snd := by
  constructor
  · intro b hb
    rcases h b hb with ⟨g1, g2, g3, g4⟩ | ⟨g1, g2, g3, t, ht, g4, g5⟩ | ⟨g1, v, t, e, hv, ht, he, g2, g3, g4, g5, g6, g7⟩
    · exact Or.inl g3
    · exact Or.inr ⟨t, ht, g4⟩
    · exact Or.inr ⟨t, ht, g4⟩
  · intro b hb
    rcases h b hb with ⟨g1, g2, g3, g4⟩ | ⟨g1, g2, g3, t, ht, g4, g5⟩ | ⟨g1, v, t, e, hv, ht, he, g2, g3, g4, g5, g6, g7⟩
    · exact Or.inl g4
    · exact Or.inl g3
    · exact Or.inr ⟨e, he, g6⟩
theorem gk_c {tst fst snd ends tests thens elses tst' fst' snd' ends' tests' thens' elses' : Nat → Int32} {b : Nat} (h : gk_G tst fst snd ends tests thens elses b) (h1 : tst' b = tst b) (h2 : fst' b = fst b) (h3 : snd' b = snd b) (h4 : ends' b = ends b) (h5 : tests' b = tests b) (h6 : thens' b = thens b) (h7 : elses' b = elses b) : gk_G tst' fst' snd' ends' tests' thens' elses' b := by
  unfold gk_G at *
  rw [h1, h2, h3, h4, h5, h6, h7]
  exact h
/-! ===== bad blocks, bad variables ===== -/
theorem xb_wp (x : Int32) : (∃ j, j < 10 ∧ x = nI j ∧ (∀ post : Int32 → Prop, post 0 → wpX_bad post x) ∧ ∀ (post : Int32 → Prop) (u : SY), post 0 → wpY_bad post u x) ∨ ((∀ post : Int32 → Prop, post 1 → wpX_bad post x) ∧ ∀ (post : Int32 → Prop) (u : SY), post 1 → wpY_bad post u x) := by
  rcases pk_ix x (n := 10) (by decide) with h | h | ⟨j, hj, e⟩
  · refine Or.inr ⟨fun post hp => br_t h hp, fun post u hp => ?_⟩
    match u with
    | (f_outputs, f_last, a_counts, a_ops, a_vs, a_ws, a_ends, a_tests, a_thens, a_elses, a_vars, a_recent, a_visits) => exact br_t h hp
  · have h9 : ¬ x ≤ 9 := by
      intro z
      have z2 : nI 10 ≤ nI 9 := Int32.le_trans h z
      rw [nI_leI (by decide) (by decide)] at z2
      omega
    have h10 : ¬ x < 10 := by
      intro z
      have z2 : nI 10 < nI 10 := Int32.lt_of_le_of_lt h z
      rw [nI_ltI (by decide) (by decide)] at z2
      omega
    have h0 : ¬ x < 0 := by
      intro z
      have z2 : nI 10 < nI 0 := Int32.lt_of_le_of_lt h z
      rw [nI_ltI (by decide) (by decide)] at z2
      omega
    refine Or.inr ⟨fun post hp => br_f h0 (br_f h10 hp), fun post u hp => ?_⟩
    match u with
    | (f_outputs, f_last, a_counts, a_ops, a_vs, a_ws, a_ends, a_tests, a_thens, a_elses, a_vars, a_recent, a_visits) => exact br_f h0 (br_f h9 hp)
  · subst e
    refine Or.inl ⟨j, hj, rfl, fun post hp => br_f (nI_pos (by omega)) (br_t (nI_lt (b := 10) (by omega) (by decide)) hp), fun post u hp => ?_⟩
    match u with
    | (f_outputs, f_last, a_counts, a_ops, a_vs, a_ws, a_ends, a_tests, a_thens, a_elses, a_vars, a_recent, a_visits) => exact br_f (nI_pos (by omega)) (br_t (nI_le (b := 9) (by omega) (by decide)) hp)
theorem xv_wp (x : Int32) : (∃ j, j < 4 ∧ x = nI j ∧ (∀ post : Int32 → Prop, post 0 → wpX_badVar post x) ∧ ∀ (post : Int32 → Prop) (u : SY), post 0 → wpY_badVariable post u x) ∨ ((∀ post : Int32 → Prop, post 1 → wpX_badVar post x) ∧ ∀ (post : Int32 → Prop) (u : SY), post 1 → wpY_badVariable post u x) := by
  rcases pk_ix x (n := 4) (by decide) with h | h | ⟨j, hj, e⟩
  · refine Or.inr ⟨fun post hp => br_t h hp, fun post u hp => ?_⟩
    match u with
    | (f_outputs, f_last, a_counts, a_ops, a_vs, a_ws, a_ends, a_tests, a_thens, a_elses, a_vars, a_recent, a_visits) => exact br_t h hp
  · have h3 : ¬ x ≤ 3 := by
      intro z
      have z2 : nI 4 ≤ nI 3 := Int32.le_trans h z
      rw [nI_leI (by decide) (by decide)] at z2
      omega
    have h0 : ¬ x < 0 := by
      intro z
      have z2 : nI 4 < nI 0 := Int32.lt_of_le_of_lt h z
      rw [nI_ltI (by decide) (by decide)] at z2
      omega
    refine Or.inr ⟨fun post hp => br_f h0 (br_f h3 hp), fun post u hp => ?_⟩
    match u with
    | (f_outputs, f_last, a_counts, a_ops, a_vs, a_ws, a_ends, a_tests, a_thens, a_elses, a_vars, a_recent, a_visits) => exact br_f h0 (br_f h3 hp)
  · subst e
    refine Or.inl ⟨j, hj, rfl, fun post hp => br_f (nI_pos (by omega)) (br_t (nI_le (b := 3) (by omega) (by decide)) hp), fun post u hp => ?_⟩
    match u with
    | (f_outputs, f_last, a_counts, a_ops, a_vs, a_ws, a_ends, a_tests, a_thens, a_elses, a_vars, a_recent, a_visits) => exact br_f (nI_pos (by omega)) (br_t (nI_le (b := 3) (by omega) (by decide)) hp)
end
section
section
variable {f_ready f_count f_loops f_length f_label f_entered f_ended f_written : Int32} {a_size a_op a_target a_operand a_test a_first a_second a_order a_place a_walkStack a_walkSide a_from a_to a_word a_with a_loopStart a_var a_seen a_lastOut : Nat → Int32} {a_ends a_tests a_thens a_elses a_recent : Nat → Int32}
theorem in_157 {post : SX → Prop} (h : ∀ t f s : Nat → Int32, (∀ i, i < 10 → t i = -1 ∧ f i = -1 ∧ s i = -1) → post (f_ready, f_count, f_loops, f_length, f_label, f_entered, (-1), f_written, a_size, a_op, a_target, a_operand, t, f, s, a_order, a_place, a_walkStack, a_walkSide, a_from, a_to, a_word, a_with, a_loopStart, a_var, a_seen, a_lastOut)) : ∀ (n b : Nat) (t f s : Nat → Int32), n + b = 11 → b ≤ 10 → (∀ i, i < b → t i = -1 ∧ f i = -1 ∧ s i = -1) → wX_init_157 post f_ready f_count f_loops f_length f_label f_entered f_ended f_written n (nI b) a_size a_op a_target a_operand t f s a_order a_place a_walkStack a_walkSide a_from a_to a_word a_with a_loopStart a_var a_seen a_lastOut := by
  intro n
  induction n with
  | zero =>
    intro b t f s hn hb
    omega
  | succ n ih =>
    intro b t f s hn hb hi
    by_cases hb10 : b = 10
    · subst hb10
      exact br_t (nI_le (a := 10) (by omega) (by decide)) (h t f s hi)
    · have ib : vp_in (nI b) 10 := pk_in b 10 (by omega)
      have cb : (nI b).toNatClampNeg = b := nI_clamp (by omega)
      refine br_f (nI_ge (b := 10) (by omega) (by decide)) ⟨ib, nm_r (e' := upd t b (-1)) (by rw [cb]) ⟨ib, nm_r (e' := upd f b (-1)) (by rw [cb]) ⟨ib, nm_r (e' := upd s b (-1)) (by rw [cb]) (nm_r (nI_1 b) (ih (b + 1) _ _ _ (by omega) (by omega) ?_))⟩⟩⟩
      intro i hi2
      by_cases e : i = b
      · rw [e, pk_us, pk_us, pk_us]
        exact ⟨rfl, rfl, rfl⟩
      · rw [pk_un e, pk_un e, pk_un e]
        exact hi i (by omega)
theorem se_wp {post : SX → Prop} {b : Nat} {x y z : Int32} (hb : b < 10) (h : post (0, f_count, f_loops, f_length, f_label, f_entered, f_ended, f_written, a_size, a_op, a_target, a_operand, upd a_test b x, upd a_first b y, upd a_second b z, a_order, a_place, a_walkStack, a_walkSide, a_from, a_to, a_word, a_with, a_loopStart, a_var, a_seen, a_lastOut)) : wpX_setEnd post (f_ready, f_count, f_loops, f_length, f_label, f_entered, f_ended, f_written, a_size, a_op, a_target, a_operand, a_test, a_first, a_second, a_order, a_place, a_walkStack, a_walkSide, a_from, a_to, a_word, a_with, a_loopStart, a_var, a_seen, a_lastOut) (nI b) x y z := by
  have ib : vp_in (nI b) 10 := pk_in b 10 hb
  have cb : (nI b).toNatClampNeg = b := nI_clamp (by omega)
  exact And.intro ib (nm_r (e' := upd a_test b x) (by rw [cb]) ⟨ib, nm_r (e' := upd a_first b y) (by rw [cb]) ⟨ib, nm_r (e' := upd a_second b z) (by rw [cb]) h⟩⟩)
/-- assign: refused alike, or both come to the store -/
theorem as_chk (v1 v2 v3 v4 : Int32) : (∃ r : Int32, (∀ post : Int32 → SX → Prop, post r (f_ready, f_count, f_loops, f_length, f_label, f_entered, f_ended, f_written, a_size, a_op, a_target, a_operand, a_test, a_first, a_second, a_order, a_place, a_walkStack, a_walkSide, a_from, a_to, a_word, a_with, a_loopStart, a_var, a_seen, a_lastOut) → wpX_assign post (f_ready, f_count, f_loops, f_length, f_label, f_entered, f_ended, f_written, a_size, a_op, a_target, a_operand, a_test, a_first, a_second, a_order, a_place, a_walkStack, a_walkSide, a_from, a_to, a_word, a_with, a_loopStart, a_var, a_seen, a_lastOut) v1 v2 v3 v4) ∧ (∀ post : Int32 → SY → Prop, post r (f_written, f_ended, a_size, a_op, a_target, a_operand, a_ends, a_tests, a_thens, a_elses, a_var, a_recent, a_seen) → wpY_assign post (f_written, f_ended, a_size, a_op, a_target, a_operand, a_ends, a_tests, a_thens, a_elses, a_var, a_recent, a_seen) v1 v2 v3 v4)) ∨ (∃ b o v, b < 10 ∧ o ≤ 5 ∧ v < 4 ∧ v1 = nI b ∧ v2 = nI o ∧ v3 = nI v ∧ (1 ≤ o → o ≤ 3 → ∃ x, x < 4 ∧ v4 = nI x) ∧ (∀ post : Int32 → SX → Prop, wX_assign_49 post v1 v2 v3 v4 f_ready f_count f_loops f_length f_label f_entered f_ended f_written a_size a_op a_target a_operand a_test a_first a_second a_order a_place a_walkStack a_walkSide a_from a_to a_word a_with a_loopStart a_var a_seen a_lastOut → wpX_assign post (f_ready, f_count, f_loops, f_length, f_label, f_entered, f_ended, f_written, a_size, a_op, a_target, a_operand, a_test, a_first, a_second, a_order, a_place, a_walkStack, a_walkSide, a_from, a_to, a_word, a_with, a_loopStart, a_var, a_seen, a_lastOut) v1 v2 v3 v4) ∧ (∀ post : Int32 → SY → Prop, wY_assign_52 post v1 v2 v3 v4 f_written f_ended a_size a_op a_target a_operand a_ends a_tests a_thens a_elses a_var a_recent a_seen → wpY_assign post (f_written, f_ended, a_size, a_op, a_target, a_operand, a_ends, a_tests, a_thens, a_elses, a_var, a_recent, a_seen) v1 v2 v3 v4)) := by
  unfold wpX_assign wpY_assign
  dsimp only
  rcases xb_wp v1 with ⟨b, hb, e1, hX1, hY1⟩ | ⟨hX1, hY1⟩
  · by_cases h0 : v2 < 0
    · exact Or.inl ⟨-3, fun post h => hX1 _ (br_t rfl (br_t h0 h)), fun post h => hY1 _ _ (br_t rfl (br_t h0 h))⟩
    · by_cases h5 : v2 ≤ 5
      · obtain ⟨o, ho, e2⟩ := nI_of2 (M := 5) (n := 5) (by decide) h0 h5
        rcases xv_wp v3 with ⟨v, hv, e3, hX3, hY3⟩ | ⟨hX3, hY3⟩
        · by_cases h1 : v2 < 1
          · refine Or.inr ⟨b, o, v, hb, ho, hv, e1, e2, e3, fun z _ => ?_, fun post h => hX1 _ (br_t rfl (br_f h0 (br_t h5 (hX3 _ (br_t rfl (br_t h1 h)))))), fun post h => hY1 _ _ (br_t rfl (br_f h0 (br_t h5 (hY3 _ _ (br_t rfl (br_t h1 h))))))⟩
            exfalso
            have z2 : nI o < nI 1 := by rw [← e2]; exact h1
            rw [nI_ltI (by omega) (by decide)] at z2
            omega
          · by_cases h3 : 3 < v2
            · refine Or.inr ⟨b, o, v, hb, ho, hv, e1, e2, e3, fun _ z => ?_, fun post h => hX1 _ (br_t rfl (br_f h0 (br_t h5 (hX3 _ (br_t rfl (br_f h1 (br_t h3 h))))))), fun post h => hY1 _ _ (br_t rfl (br_f h0 (br_t h5 (hY3 _ _ (br_t rfl (br_f h1 (br_t h3 h)))))))⟩
              exfalso
              have z2 : nI 3 < nI o := by rw [← e2]; exact h3
              rw [nI_ltI (by decide) (by omega)] at z2
              omega
            · rcases xv_wp v4 with ⟨x, hx, e4, hX4, hY4⟩ | ⟨hX4, hY4⟩
              · exact Or.inr ⟨b, o, v, hb, ho, hv, e1, e2, e3, fun _ _ => ⟨x, hx, e4⟩, fun post h => hX1 _ (br_t rfl (br_f h0 (br_t h5 (hX3 _ (br_t rfl (br_f h1 (br_f h3 (hX4 _ (br_t rfl h))))))))), fun post h => hY1 _ _ (br_t rfl (br_f h0 (br_t h5 (hY3 _ _ (br_t rfl (br_f h1 (br_f h3 (hY4 _ _ (br_t rfl h)))))))))⟩
              · exact Or.inl ⟨-2, fun post h => hX1 _ (br_t rfl (br_f h0 (br_t h5 (hX3 _ (br_t rfl (br_f h1 (br_f h3 (hX4 _ (br_f (by decide) h))))))))), fun post h => hY1 _ _ (br_t rfl (br_f h0 (br_t h5 (hY3 _ _ (br_t rfl (br_f h1 (br_f h3 (hY4 _ _ (br_f (by decide) h)))))))))⟩
        · exact Or.inl ⟨-2, fun post h => hX1 _ (br_t rfl (br_f h0 (br_t h5 (hX3 _ (br_f (by decide) h))))), fun post h => hY1 _ _ (br_t rfl (br_f h0 (br_t h5 (hY3 _ _ (br_f (by decide) h)))))⟩
      · exact Or.inl ⟨-3, fun post h => hX1 _ (br_t rfl (br_f h0 (br_f h5 h))), fun post h => hY1 _ _ (br_t rfl (br_f h0 (br_f h5 h)))⟩
  · exact Or.inl ⟨-1, fun post h => hX1 _ (br_f (by decide) h), fun post h => hY1 _ _ (br_f (by decide) h)⟩
theorem as_49 {post : Int32 → SX → Prop} {b o v sz : Nat} {x : Int32} (hb : b < 10) (hs : a_size b = nI sz) (h3 : sz < 3) (h : post (nI (sz + 1)) (f_ready, f_count, f_loops, f_length, f_label, f_entered, f_ended, f_written, upd a_size b (nI (sz + 1)), upd a_op (b * 3 + sz) (nI o), upd a_target (b * 3 + sz) (nI v), upd a_operand (b * 3 + sz) x, a_test, a_first, a_second, a_order, a_place, a_walkStack, a_walkSide, a_from, a_to, a_word, a_with, a_loopStart, a_var, a_seen, a_lastOut)) : wX_assign_49 post (nI b) (nI o) (nI v) x f_ready f_count f_loops f_length f_label f_entered f_ended f_written a_size a_op a_target a_operand a_test a_first a_second a_order a_place a_walkStack a_walkSide a_from a_to a_word a_with a_loopStart a_var a_seen a_lastOut := by
  have ib : vp_in (nI b) 10 := pk_in b 10 hb
  have cb : (nI b).toNatClampNeg = b := nI_clamp (by omega)
  have i30 : vp_in (nI (b * 3 + sz)) 30 := pk_in (b * 3 + sz) 30 (by omega)
  have ci : (nI (b * 3 + sz)).toNatClampNeg = b * 3 + sz := nI_clamp (by omega)
  have e1 : nI b * 3 + a_size (nI b).toNatClampNeg = nI (b * 3 + sz) := by
    rw [cb, hs]
    show nI b * nI 3 + nI sz = _
    rw [pk_mul, nI_add]
  refine And.intro ib (br_t (by rw [cb, hs]; exact nI_lt (b := 3) h3 (by decide)) ⟨ib, nm_r e1 ⟨i30, nm_r (e' := upd a_op (b * 3 + sz) (nI o)) (by rw [ci]) ⟨i30, nm_r (e' := upd a_target (b * 3 + sz) (nI v)) (by rw [ci]) ⟨i30, nm_r (e' := upd a_operand (b * 3 + sz) x) (by rw [ci]) ⟨ib, ib, nm_r (e' := upd a_size b (nI (sz + 1))) (by rw [cb, hs, nI_1]) ⟨ib, ?_⟩⟩⟩⟩⟩⟩)
  rw [cb, pk_us]
  exact h
theorem as_52 {post : Int32 → SY → Prop} {b o v sz : Nat} {x : Int32} (hb : b < 10) (hs : a_size b = nI sz) (h3 : sz < 3) (h : post (nI (sz + 1)) (f_written, f_ended, upd a_size b (nI (sz + 1)), upd a_op (b * 3 + sz) (nI o), upd a_target (b * 3 + sz) (nI v), upd a_operand (b * 3 + sz) x, a_ends, a_tests, a_thens, a_elses, a_var, a_recent, a_seen)) : wY_assign_52 post (nI b) (nI o) (nI v) x f_written f_ended a_size a_op a_target a_operand a_ends a_tests a_thens a_elses a_var a_recent a_seen := by
  have ib : vp_in (nI b) 10 := pk_in b 10 hb
  have cb : (nI b).toNatClampNeg = b := nI_clamp (by omega)
  have e1 : nI b * 3 + nI sz = nI (b * 3 + sz) := by
    show nI b * nI 3 + nI sz = _
    rw [pk_mul, nI_add]
  have i30 : vp_in (nI b * 3 + nI sz) 30 := pk_in (b * 3 + sz) 30 (by omega) e1
  have ci : (nI b * 3 + nI sz).toNatClampNeg = b * 3 + sz := by rw [e1, nI_clamp (by omega)]
  refine And.intro ib (nm_r (e' := nI sz) (by rw [cb, hs]) (br_f (ri_ne (b := 3) (by omega)) ⟨i30, nm_r (e' := upd a_op (b * 3 + sz) (nI o)) (by rw [ci]) ⟨i30, nm_r (e' := upd a_target (b * 3 + sz) (nI v)) (by rw [ci]) ⟨i30, nm_r (e' := upd a_operand (b * 3 + sz) x) (by rw [ci]) ⟨ib, nm_r (e' := upd a_size b (nI (sz + 1))) (by rw [cb, nI_1]) ?_⟩⟩⟩⟩))
  rw [nI_1]
  exact h
/-- the visits are cleared alike -/
theorem r6_all : ∀ (j b : Nat) (seen : Nat → Int32), b + j = 10 → ∃ seen' : Nat → Int32, (∀ post : Int32 → SX → Prop, (∃ n44 : Nat, wX_run_44 post n44 0 0 f_ready f_count f_loops f_length 0 0 f_ended 0 a_size a_op a_target a_operand a_test a_first a_second a_order a_place a_walkStack a_walkSide a_from a_to a_word a_with a_loopStart a_var seen' a_lastOut) → wX_run_6 post f_ready f_count f_loops f_length f_label f_entered f_ended f_written (j + 1) (nI b) a_size a_op a_target a_operand a_test a_first a_second a_order a_place a_walkStack a_walkSide a_from a_to a_word a_with a_loopStart a_var seen a_lastOut) ∧ (∀ post : Int32 → SY → Prop, (∃ n30 : Nat, wY_run_30 post n30 0 0 0 f_ended a_size a_op a_target a_operand a_ends a_tests a_thens a_elses a_var a_recent seen') → wY_run_7 post 0 f_ended (j + 1) (nI b) a_size a_op a_target a_operand a_ends a_tests a_thens a_elses a_var a_recent seen) := by
  intro j
  induction j with
  | zero =>
    intro b seen hb
    have e : b = 10 := by omega
    subst e
    exact ⟨seen, fun post h => br_t (nI_le (a := 10) (by omega) (by decide)) h, fun post h => br_t (nI_le (a := 10) (by omega) (by decide)) h⟩
  | succ j ih =>
    intro b seen hb
    have ib : vp_in (nI b) 10 := pk_in b 10 (by omega)
    have cb : (nI b).toNatClampNeg = b := nI_clamp (by omega)
    obtain ⟨seen', hX, hY⟩ := ih (b + 1) (upd seen b 0) (by omega)
    exact ⟨seen', fun post h => br_f (nI_ge (b := 10) (by omega) (by decide)) ⟨ib, nm_r (e' := upd seen b 0) (by rw [cb]) (nm_r (nI_1 b) (hX post h))⟩, fun post h => br_f (nI_ge (b := 10) (by omega) (by decide)) ⟨ib, nm_r (e' := upd seen b 0) (by rw [cb]) (nm_r (nI_1 b) (hY post h))⟩⟩
end
end
section
theorem i_up {k : Nat} {u : SX} {v : SY} (h : i_Rel k u v) : i_Rel (k + 5) u v := h
theorem i_vc0 : wpX_init (fun u => wpY_init (fun v => i_Rel 0 u v)) := by
  refine Exists.intro 11 (in_157 ?_ 11 0 (fun _ => 0) (fun _ => 0) (fun _ => 0) (by omega) (by omega) (fun i hi => absurd hi (by omega)))
  intro t f s hi
  exact rl_in (k := 0) (w := 0) ⟨by omega, fun i _ hw => absurd hw (by omega), fun b _ => ⟨0, by omega, rfl⟩, fun i _ => ⟨0, 0, by omega, by omega, rfl, rfl, fun z => absurd z (by omega)⟩, fun b hb => Or.inl ⟨rfl, (hi b hb).1, (hi b hb).2.1, (hi b hb).2.2⟩, Or.inl rfl⟩
theorem i_vc_assign {k : Nat} {u : SX} {v : SY} (I : i_Rel k u v) (hk : k + 5 ≤ 2560) (v1 : Int32) (v2 : Int32) (v3 : Int32) (v4 : Int32) : wpX_assign (fun r u' => wpY_assign (fun r' v' => r' = r ∧ i_Rel (k + 5) u' v') v v1 v2 v3 v4) u v1 v2 v3 v4 := by
  refine rl_el (P := fun u v => wpX_assign (fun r u' => wpY_assign (fun r' v' => r' = r ∧ i_Rel (k + 5) u' v') v v1 v2 v3 v4) u v1 v2 v3 v4) ?_ I
  intro f_ready f_count f_loops f_length f_label f_entered f_ended a_size a_op a_target a_operand a_test a_first a_second a_order a_place a_walkStack a_walkSide a_from a_to a_word a_with a_loopStart a_var a_seen a_lastOut a_ends a_tests a_thens a_elses a_recent w F
  rcases as_chk (f_ready := f_ready) (f_count := f_count) (f_loops := f_loops) (f_length := f_length) (f_label := f_label) (f_entered := f_entered) (f_ended := f_ended) (f_written := nI w) (a_size := a_size) (a_op := a_op) (a_target := a_target) (a_operand := a_operand) (a_test := a_test) (a_first := a_first) (a_second := a_second) (a_order := a_order) (a_place := a_place) (a_walkStack := a_walkStack) (a_walkSide := a_walkSide) (a_from := a_from) (a_to := a_to) (a_word := a_word) (a_with := a_with) (a_loopStart := a_loopStart) (a_var := a_var) (a_seen := a_seen) (a_lastOut := a_lastOut) (a_ends := a_ends) (a_tests := a_tests) (a_thens := a_thens) (a_elses := a_elses) (a_recent := a_recent) v1 v2 v3 v4 with ⟨r, hX, hY⟩ | ⟨b, o, v', hb, ho, hv, e1, e2, e3, hx, hX, hY⟩
  · exact hX _ (hY _ ⟨rfl, rl_in F⟩)
  · obtain ⟨F1, F2, F3, F4, F5, F6⟩ := F
    obtain ⟨sz, hsz, es⟩ := F3 b hb
    subst e1 e2 e3
    by_cases h3 : sz < 3
    · refine hX _ (as_49 hb es h3 (hY _ (as_52 hb es h3 ⟨rfl, rl_in ⟨F1, F2, ?_, ?_, F5, F6⟩⟩)))
      · intro b' hb'
        by_cases e : b' = b
        · exact ⟨sz + 1, by omega, by rw [e, pk_us]⟩
        · rw [pk_un e]
          exact F3 b' hb'
      · intro i hi
        by_cases e : i = b * 3 + sz
        · rw [e, pk_us, pk_us, pk_us]
          exact ⟨o, v', ho, hv, rfl, rfl, hx⟩
        · rw [pk_un e, pk_un e, pk_un e]
          exact F4 i hi
    · have e3 : sz = 3 := by omega
      subst e3
      have ib : vp_in (nI b) 10 := pk_in b 10 hb
      have cb : (nI b).toNatClampNeg = b := nI_clamp (by omega)
      refine hX _ (And.intro ib (br_f (by rw [cb, es]; decide) (hY _ (And.intro ib (nm_r (e' := nI 3) (by rw [cb, es]) (br_t rfl ⟨rfl, rl_in ⟨F1, F2, F3, F4, F5, F6⟩⟩))))))
theorem i_vc_empty {k : Nat} {u : SX} {v : SY} (I : i_Rel k u v) (hk : k + 5 ≤ 2560) (v1 : Int32) : wpX_empty (fun r u' => wpY_empty (fun r' v' => r' = r ∧ i_Rel (k + 5) u' v') v v1) u v1 := by
  refine rl_el (P := fun u v => wpX_empty (fun r u' => wpY_empty (fun r' v' => r' = r ∧ i_Rel (k + 5) u' v') v v1) u v1) ?_ I
  intro f_ready f_count f_loops f_length f_label f_entered f_ended a_size a_op a_target a_operand a_test a_first a_second a_order a_place a_walkStack a_walkSide a_from a_to a_word a_with a_loopStart a_var a_seen a_lastOut a_ends a_tests a_thens a_elses a_recent w F
  unfold wpX_empty wpY_empty
  dsimp only
  rcases xb_wp v1 with ⟨b, hb, e1, hX1, hY1⟩ | ⟨hX1, hY1⟩
  · obtain ⟨F1, F2, F3, F4, F5, F6⟩ := F
    subst e1
    have ib : vp_in (nI b) 10 := pk_in b 10 hb
    have cb : (nI b).toNatClampNeg = b := nI_clamp (by omega)
    refine hX1 _ (br_t rfl ⟨ib, nm_r (e' := a_size b) (by rw [cb]) ⟨ib, nm_r (e' := upd a_size b 0) (by rw [cb]) ?_⟩⟩)
    refine hY1 _ _ (br_t rfl ⟨ib, nm_r (e' := a_size b) (by rw [cb]) ⟨ib, nm_r (e' := upd a_size b 0) (by rw [cb]) ⟨rfl, rl_in ⟨F1, F2, ?_, F4, F5, F6⟩⟩⟩⟩)
    intro b' hb'
    by_cases e : b' = b
    · exact ⟨0, by omega, by rw [e, pk_us]; rfl⟩
    · rw [pk_un e]
      exact F3 b' hb'
  · exact hX1 _ (br_f (by decide) (hY1 _ _ (br_f (by decide) ⟨rfl, rl_in F⟩)))
theorem i_vc_stop {k : Nat} {u : SX} {v : SY} (I : i_Rel k u v) (hk : k + 5 ≤ 2560) (v1 : Int32) : wpX_stop (fun r u' => wpY_stop (fun r' v' => r' = r ∧ i_Rel (k + 5) u' v') v v1) u v1 := by
  refine rl_el (P := fun u v => wpX_stop (fun r u' => wpY_stop (fun r' v' => r' = r ∧ i_Rel (k + 5) u' v') v v1) u v1) ?_ I
  intro f_ready f_count f_loops f_length f_label f_entered f_ended a_size a_op a_target a_operand a_test a_first a_second a_order a_place a_walkStack a_walkSide a_from a_to a_word a_with a_loopStart a_var a_seen a_lastOut a_ends a_tests a_thens a_elses a_recent w F
  unfold wpX_stop wpY_stop
  dsimp only
  rcases xb_wp v1 with ⟨b, hb, e1, hX1, hY1⟩ | ⟨hX1, hY1⟩
  · obtain ⟨F1, F2, F3, F4, F5, F6⟩ := F
    subst e1
    have ib : vp_in (nI b) 10 := pk_in b 10 hb
    have cb : (nI b).toNatClampNeg = b := nI_clamp (by omega)
    refine hX1 _ (br_t rfl (se_wp hb ?_))
    refine hY1 _ _ (br_t rfl ⟨ib, nm_r (e' := upd a_ends b 0) (by rw [cb]) ⟨rfl, rl_in ⟨F1, F2, F3, F4, ?_, Or.inl rfl⟩⟩⟩)
    intro b' hb'
    by_cases e : b' = b
    · rw [e]
      exact Or.inl ⟨pk_us, pk_us, pk_us, pk_us⟩
    · exact gk_c (F5 b' hb') (pk_un e) (pk_un e) (pk_un e) (pk_un e) rfl rfl rfl
  · exact hX1 _ (br_f (by decide) (hY1 _ _ (br_f (by decide) ⟨rfl, rl_in F⟩)))
theorem i_vc_go {k : Nat} {u : SX} {v : SY} (I : i_Rel k u v) (hk : k + 5 ≤ 2560) (v1 : Int32) (v2 : Int32) : wpX_go (fun r u' => wpY_go (fun r' v' => r' = r ∧ i_Rel (k + 5) u' v') v v1 v2) u v1 v2 := by
  refine rl_el (P := fun u v => wpX_go (fun r u' => wpY_go (fun r' v' => r' = r ∧ i_Rel (k + 5) u' v') v v1 v2) u v1 v2) ?_ I
  intro f_ready f_count f_loops f_length f_label f_entered f_ended a_size a_op a_target a_operand a_test a_first a_second a_order a_place a_walkStack a_walkSide a_from a_to a_word a_with a_loopStart a_var a_seen a_lastOut a_ends a_tests a_thens a_elses a_recent w F
  unfold wpX_go wpY_go
  dsimp only
  rcases xb_wp v1 with ⟨b, hb, e1, hX1, hY1⟩ | ⟨hX1, hY1⟩
  · rcases xb_wp v2 with ⟨t, ht, e2, hX2, hY2⟩ | ⟨hX2, hY2⟩
    · obtain ⟨F1, F2, F3, F4, F5, F6⟩ := F
      subst e1 e2
      have ib : vp_in (nI b) 10 := pk_in b 10 hb
      have cb : (nI b).toNatClampNeg = b := nI_clamp (by omega)
      refine hX1 _ (br_t rfl (hX2 _ (br_t rfl (se_wp hb ?_))))
      refine hY1 _ _ (br_t rfl (hY2 _ _ (br_t rfl ⟨ib, nm_r (e' := upd a_ends b 1) (by rw [cb]) ⟨ib, nm_r (e' := upd a_thens b (nI t)) (by rw [cb]) ⟨rfl, rl_in ⟨F1, F2, F3, F4, ?_, Or.inl rfl⟩⟩⟩⟩)))
      intro b' hb'
      by_cases e : b' = b
      · rw [e]
        exact Or.inr (Or.inl ⟨pk_us, pk_us, pk_us, t, ht, pk_us, pk_us⟩)
      · exact gk_c (F5 b' hb') (pk_un e) (pk_un e) (pk_un e) (pk_un e) rfl (pk_un e) rfl
    · exact hX1 _ (br_t rfl (hX2 _ (br_f (by decide) (hY1 _ _ (br_t rfl (hY2 _ _ (br_f (by decide) ⟨rfl, rl_in F⟩)))))))
  · exact hX1 _ (br_f (by decide) (hY1 _ _ (br_f (by decide) ⟨rfl, rl_in F⟩)))
theorem i_vc_branch {k : Nat} {u : SX} {v : SY} (I : i_Rel k u v) (hk : k + 5 ≤ 2560) (v1 : Int32) (v2 : Int32) (v3 : Int32) (v4 : Int32) : wpX_branch (fun r u' => wpY_branch (fun r' v' => r' = r ∧ i_Rel (k + 5) u' v') v v1 v2 v3 v4) u v1 v2 v3 v4 := by
  refine rl_el (P := fun u v => wpX_branch (fun r u' => wpY_branch (fun r' v' => r' = r ∧ i_Rel (k + 5) u' v') v v1 v2 v3 v4) u v1 v2 v3 v4) ?_ I
  intro f_ready f_count f_loops f_length f_label f_entered f_ended a_size a_op a_target a_operand a_test a_first a_second a_order a_place a_walkStack a_walkSide a_from a_to a_word a_with a_loopStart a_var a_seen a_lastOut a_ends a_tests a_thens a_elses a_recent w F
  unfold wpX_branch wpY_branch
  dsimp only
  rcases xb_wp v1 with ⟨b, hb, e1, hX1, hY1⟩ | ⟨hX1, hY1⟩
  · rcases xb_wp v3 with ⟨t, ht, e3, hX3, hY3⟩ | ⟨hX3, hY3⟩
    · rcases xb_wp v4 with ⟨c, hc, e4, hX4, hY4⟩ | ⟨hX4, hY4⟩
      · rcases xv_wp v2 with ⟨x, hx, e2, hX2, hY2⟩ | ⟨hX2, hY2⟩
        · obtain ⟨F1, F2, F3, F4, F5, F6⟩ := F
          subst e1 e2 e3 e4
          have ib : vp_in (nI b) 10 := pk_in b 10 hb
          have cb : (nI b).toNatClampNeg = b := nI_clamp (by omega)
          refine hX1 _ (br_t rfl (hX3 _ (br_t rfl (hX4 _ (br_t rfl (hX2 _ (br_t rfl (se_wp hb ?_))))))))
          refine hY1 _ _ (br_t rfl (hY3 _ _ (br_t rfl (hY4 _ _ (br_t rfl (hY2 _ _ (br_t rfl ⟨ib, nm_r (e' := upd a_ends b 2) (by rw [cb]) ⟨ib, nm_r (e' := upd a_tests b (nI x)) (by rw [cb]) ⟨ib, nm_r (e' := upd a_thens b (nI t)) (by rw [cb]) ⟨ib, nm_r (e' := upd a_elses b (nI c)) (by rw [cb]) ⟨rfl, rl_in ⟨F1, F2, F3, F4, ?_, Or.inl rfl⟩⟩⟩⟩⟩⟩)))))))
          intro b' hb'
          by_cases e : b' = b
          · rw [e]
            exact Or.inr (Or.inr ⟨pk_us, x, t, c, hx, ht, hc, pk_us, pk_us, pk_us, pk_us, pk_us, pk_us⟩)
          · exact gk_c (F5 b' hb') (pk_un e) (pk_un e) (pk_un e) (pk_un e) (pk_un e) (pk_un e) (pk_un e)
        · exact hX1 _ (br_t rfl (hX3 _ (br_t rfl (hX4 _ (br_t rfl (hX2 _ (br_f (by decide) (hY1 _ _ (br_t rfl (hY3 _ _ (br_t rfl (hY4 _ _ (br_t rfl (hY2 _ _ (br_f (by decide) ⟨rfl, rl_in F⟩)))))))))))))))
      · exact hX1 _ (br_t rfl (hX3 _ (br_t rfl (hX4 _ (br_f (by decide) (hY1 _ _ (br_t rfl (hY3 _ _ (br_t rfl (hY4 _ _ (br_f (by decide) ⟨rfl, rl_in F⟩)))))))))))
    · exact hX1 _ (br_t rfl (hX3 _ (br_f (by decide) (hY1 _ _ (br_t rfl (hY3 _ _ (br_f (by decide) ⟨rfl, rl_in F⟩)))))))
  · exact hX1 _ (br_f (by decide) (hY1 _ _ (br_f (by decide) ⟨rfl, rl_in F⟩)))
theorem i_vc_set {k : Nat} {u : SX} {v : SY} (I : i_Rel k u v) (hk : k + 5 ≤ 2560) (v1 : Int32) (v2 : Int32) : wpX_set (fun r u' => wpY_set (fun r' v' => r' = r ∧ i_Rel (k + 5) u' v') v v1 v2) u v1 v2 := by
  refine rl_el (P := fun u v => wpX_set (fun r u' => wpY_set (fun r' v' => r' = r ∧ i_Rel (k + 5) u' v') v v1 v2) u v1 v2) ?_ I
  intro f_ready f_count f_loops f_length f_label f_entered f_ended a_size a_op a_target a_operand a_test a_first a_second a_order a_place a_walkStack a_walkSide a_from a_to a_word a_with a_loopStart a_var a_seen a_lastOut a_ends a_tests a_thens a_elses a_recent w F
  unfold wpX_set wpY_set
  dsimp only
  rcases xv_wp v1 with ⟨x, hx, e1, hX1, hY1⟩ | ⟨hX1, hY1⟩
  · subst e1
    have ix : vp_in (nI x) 4 := pk_in x 4 hx
    exact hX1 _ (br_t rfl ⟨ix, nm_e (hY1 _ _ (br_t rfl ⟨ix, nm_e ⟨rfl, rl_in F⟩⟩))⟩)
  · exact hX1 _ (br_f (by decide) (hY1 _ _ (br_f (by decide) ⟨rfl, rl_in F⟩)))
theorem i_vc_run {k : Nat} {u : SX} {v : SY} (I : i_Rel k u v) (hk : k + 5 ≤ 2560) : wpX_run (fun r u' => wpY_run (fun r' v' => r' = r ∧ i_Rel (k + 5) u' v') v) u := by
  refine rl_el (P := fun u v => wpX_run (fun r u' => wpY_run (fun r' v' => r' = r ∧ i_Rel (k + 5) u' v') v) u) ?_ I
  intro f_ready f_count f_loops f_length f_label f_entered f_ended a_size a_op a_target a_operand a_test a_first a_second a_order a_place a_walkStack a_walkSide a_from a_to a_word a_with a_loopStart a_var a_seen a_lastOut a_ends a_tests a_thens a_elses a_recent w F
  obtain ⟨F1, F2, F3, F4, F5, F6⟩ := F
  have hW := gk_w F5
  unfold wpX_run
  dsimp only
  refine pr_wp hW.1 hW.2 F6 ?_
  intro rd ct lp le o pl st sd fr to wd wt ls hP
  have hP' := hP
  obtain ⟨c, L, len, cp, ec, eL, elen, hlen, hO, hF, hB, hK⟩ := hP'
  subst elen
  obtain ⟨seen', hX6, hY6⟩ := r6_all (f_ready := rd) (f_count := ct) (f_loops := lp) (f_length := nI len) (f_label := f_label) (f_entered := f_entered) (f_ended := f_ended) (f_written := nI w) (a_size := a_size) (a_op := a_op) (a_target := a_target) (a_operand := a_operand) (a_test := a_test) (a_first := a_first) (a_second := a_second) (a_order := o) (a_place := pl) (a_walkStack := st) (a_walkSide := sd) (a_from := fr) (a_to := to) (a_word := wd) (a_with := wt) (a_loopStart := ls) (a_var := a_var) (a_lastOut := a_lastOut) (a_ends := a_ends) (a_tests := a_tests) (a_thens := a_thens) (a_elses := a_elses) (a_recent := a_recent) 10 0 a_seen (by omega)
  obtain ⟨r, lb, et, en', w', var', seen2, lo', re', hw', hou', hX, hY⟩ := rn_main (f_ready := rd) (f_count := ct) (f_loops := lp) (a_size := a_size) (a_op := a_op) (a_target := a_target) (a_operand := a_operand) (a_test := a_test) (a_first := a_first) (a_second := a_second) (a_order := o) (a_place := pl) (a_walkStack := st) (a_walkSide := sd) (a_from := fr) (a_to := to) (a_word := wd) (a_with := wt) (a_loopStart := ls) (a_ends := a_ends) (a_tests := a_tests) (a_thens := a_thens) (a_elses := a_elses) hlen hO hF hB hK F3 F4 F5 300 0 0 0 0 f_ended a_var seen' a_lastOut a_recent (by omega) (by have := hO.1; omega) hO.2.2.2.2.1 (by omega) (by omega) (fun i _ hi => absurd hi (by omega))
  refine ⟨11, hX6 _ ⟨20001, hX _ 20001 0 0 (by omega) (by omega) (Or.inl (by omega)) ?_⟩⟩
  refine Exists.intro 11 (hY6 _ ⟨301, hY _ ⟨rfl, ?_⟩⟩)
  exact rl_in ⟨hw', hou', F3, F4, F5, Or.inr hP⟩
theorem i_vc_get {k : Nat} {u : SX} {v : SY} (I : i_Rel k u v) (hk : k + 5 ≤ 2560) (v1 : Int32) : wpX_get (fun r => wpY_get (fun r' => r' = r ∧ i_Rel (k + 5) u v) v v1) u v1 := by
  refine rl_el (P := fun u v => wpX_get (fun r => wpY_get (fun r' => r' = r ∧ i_Rel (k + 5) u v) v v1) u v1) ?_ I
  intro f_ready f_count f_loops f_length f_label f_entered f_ended a_size a_op a_target a_operand a_test a_first a_second a_order a_place a_walkStack a_walkSide a_from a_to a_word a_with a_loopStart a_var a_seen a_lastOut a_ends a_tests a_thens a_elses a_recent w F
  unfold wpX_get wpY_get
  dsimp only
  rcases xv_wp v1 with ⟨x, hx, e1, hX1, hY1⟩ | ⟨hX1, hY1⟩
  · subst e1
    have ix : vp_in (nI x) 4 := pk_in x 4 hx
    exact hX1 _ (br_t rfl ⟨ix, hY1 _ _ (br_t rfl ⟨ix, rfl, rl_in F⟩)⟩)
  · exact hX1 _ (br_f (by decide) (hY1 _ _ (br_f (by decide) ⟨rfl, rl_in F⟩)))
theorem i_vc_outputs {k : Nat} {u : SX} {v : SY} (I : i_Rel k u v) (hk : k + 5 ≤ 2560) : wpX_outputs (fun r => wpY_outputs (fun r' => r' = r ∧ i_Rel (k + 5) u v) v) u := by
  refine rl_el (P := fun u v => wpX_outputs (fun r => wpY_outputs (fun r' => r' = r ∧ i_Rel (k + 5) u v) v) u) ?_ I
  intro f_ready f_count f_loops f_length f_label f_entered f_ended a_size a_op a_target a_operand a_test a_first a_second a_order a_place a_walkStack a_walkSide a_from a_to a_word a_with a_loopStart a_var a_seen a_lastOut a_ends a_tests a_thens a_elses a_recent w F
  exact And.intro rfl (rl_in F)
theorem i_vc_output {k : Nat} {u : SX} {v : SY} (I : i_Rel k u v) (hk : k + 5 ≤ 2560) (v1 : Int32) : wpX_output (fun r => wpY_output (fun r' => r' = r ∧ i_Rel (k + 5) u v) v v1) u v1 := by
  refine rl_el (P := fun u v => wpX_output (fun r => wpY_output (fun r' => r' = r ∧ i_Rel (k + 5) u v) v v1) u v1) ?_ I
  intro f_ready f_count f_loops f_length f_label f_entered f_ended a_size a_op a_target a_operand a_test a_first a_second a_order a_place a_walkStack a_walkSide a_from a_to a_word a_with a_loopStart a_var a_seen a_lastOut a_ends a_tests a_thens a_elses a_recent w F
  by_cases h0 : v1 < 0
  · exact br_t h0 (br_t h0 ⟨rfl, rl_in F⟩)
  · by_cases h15 : 15 < v1
    · exact br_f h0 (br_t h15 (br_f h0 (br_t h15 ⟨rfl, rl_in F⟩)))
    · by_cases hw : v1 < nI w
      · obtain ⟨F1, F2, F3, F4, F5, F6⟩ := F
        obtain ⟨i, hi, e⟩ := nI_of2 (M := 15) (n := 15) (by decide) h0 (Int32.not_lt.mp h15)
        subst e
        have hiw : i < w := (nI_ltI (by omega) (by omega)).mp hw
        have e1 : (nI w - 1) - nI i = nI (w - 1 - i) := by
          show (nI w - nI 1) - nI i = _
          rw [pk_sub (by omega), pk_sub (by omega)]
        have e2 : ((nI w - 1) - nI i) &&& 15 = nI ((w - 1 - i) % 16) := by
          rw [e1]
          exact pk_andN (by omega) 4 (by decide)
        have e3 : (((nI w - 1) - nI i) &&& 15).toNatClampNeg = (w - 1 - i) % 16 := by rw [e2, nI_clamp (by omega)]
        refine br_f h0 (br_f h15 (br_t hw ⟨pk_in ((w - 1 - i) % 16) 16 (by omega) e2, br_f h0 (br_f h15 (br_t hw ⟨pk_in i 16 (by omega), ?_, rl_in ⟨F1, F2, F3, F4, F5, F6⟩⟩))⟩))
        rw [e3, nI_clamp (by omega)]
        exact (F2 i (by omega) hiw).symm
      · exact br_f h0 (br_f h15 (br_f hw (br_f h0 (br_f h15 (br_f hw ⟨rfl, rl_in F⟩)))))
theorem i_vc_visits {k : Nat} {u : SX} {v : SY} (I : i_Rel k u v) (hk : k + 5 ≤ 2560) (v1 : Int32) : wpX_visits (fun r => wpY_visits (fun r' => r' = r ∧ i_Rel (k + 5) u v) v v1) u v1 := by
  refine rl_el (P := fun u v => wpX_visits (fun r => wpY_visits (fun r' => r' = r ∧ i_Rel (k + 5) u v) v v1) u v1) ?_ I
  intro f_ready f_count f_loops f_length f_label f_entered f_ended a_size a_op a_target a_operand a_test a_first a_second a_order a_place a_walkStack a_walkSide a_from a_to a_word a_with a_loopStart a_var a_seen a_lastOut a_ends a_tests a_thens a_elses a_recent w F
  unfold wpX_visits wpY_visits
  dsimp only
  rcases xb_wp v1 with ⟨b, hb, e1, hX1, hY1⟩ | ⟨hX1, hY1⟩
  · subst e1
    have ib : vp_in (nI b) 10 := pk_in b 10 hb
    exact hX1 _ (br_t rfl ⟨ib, hY1 _ _ (br_t rfl ⟨ib, rfl, rl_in F⟩)⟩)
  · exact hX1 _ (br_f (by decide) (hY1 _ _ (br_f (by decide) ⟨rfl, rl_in F⟩)))
theorem i_vc_last {k : Nat} {u : SX} {v : SY} (I : i_Rel k u v) (hk : k + 5 ≤ 2560) : wpX_last (fun r => wpY_last (fun r' => r' = r ∧ i_Rel (k + 5) u v) v) u := by
  refine rl_el (P := fun u v => wpX_last (fun r => wpY_last (fun r' => r' = r ∧ i_Rel (k + 5) u v) v) u) ?_ I
  intro f_ready f_count f_loops f_length f_label f_entered f_ended a_size a_op a_target a_operand a_test a_first a_second a_order a_place a_walkStack a_walkSide a_from a_to a_word a_with a_loopStart a_var a_seen a_lastOut a_ends a_tests a_thens a_elses a_recent w F
  exact And.intro rfl (rl_in F)
theorem i_vc_reachable {k : Nat} {u : SX} {v : SY} (I : i_Rel k u v) (hk : k + 5 ≤ 2560) : wpX_reachable (fun r u' => wpY_reachable (fun r' => r' = r ∧ i_Rel (k + 5) u' v) v) u := by
  refine rl_el (P := fun u v => wpX_reachable (fun r u' => wpY_reachable (fun r' => r' = r ∧ i_Rel (k + 5) u' v) v) u) ?_ I
  intro f_ready f_count f_loops f_length f_label f_entered f_ended a_size a_op a_target a_operand a_test a_first a_second a_order a_place a_walkStack a_walkSide a_from a_to a_word a_with a_loopStart a_var a_seen a_lastOut a_ends a_tests a_thens a_elses a_recent w F
  obtain ⟨F1, F2, F3, F4, F5, F6⟩ := F
  have hW := gk_w F5
  unfold wpX_reachable
  dsimp only
  refine pr_wp hW.1 hW.2 F6 ?_
  intro rd ct lp le o pl st sd fr to wd wt ls hP
  have hP' := hP
  obtain ⟨c, L, len, cp, ec, eL, elen, hlen, hO, hF, hB, hK⟩ := hP'
  refine re_wp F5 hO ⟨ec.symm, ?_⟩
  exact rl_in ⟨F1, F2, F3, F4, F5, Or.inr hP⟩
end
