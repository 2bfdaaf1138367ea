section
/-! rows pasted from kit/rows -/
theorem pk_us {f : Nat → Int32} {k : Nat} {x : Int32} : upd f k x k = x := if_pos rfl
theorem pk_un {f : Nat → Int32} {k j : Nat} {x : Int32} (h : j ≠ k) : upd f k x j = f j := if_neg h
theorem pk_sub {a b : Nat} (h : b ≤ a) : nI a - nI b = nI (a - b) := by
  obtain ⟨c, rfl⟩ : ∃ c, a = c + b := ⟨a - b, by omega⟩
  rw [← nI_add, Int32.add_sub_cancel, Nat.add_sub_cancel]
theorem pk_ix (x : Int32) {n : Nat} (hn : n < 2 ^ 31) : x < 0 ∨ nI n ≤ x ∨ ∃ j : Nat, j < n ∧ x = nI j := by
  by_cases h : x < 0
  · exact Or.inl h
  · obtain ⟨j, hj, rfl⟩ := nI_of h
    by_cases h2 : j < n
    · exact Or.inr (Or.inr ⟨j, h2, rfl⟩)
    · exact Or.inr (Or.inl (nI_le (by omega) hj))
theorem pk_le {x y : Int32} {A B : Prop} (a b : Nat) (f : a ≤ b → A) (g : b < a → B) (hx : x = nI a := by rfl) (hy : y = nI b := by rfl) (ha : a < 2 ^ 31 := by omega) (hb : b < 2 ^ 31 := by omega) : (x ≤ y → A) ∧ (¬ x ≤ y → B) := by
  subst hx hy
  rw [nI_leI ha hb]
  exact ⟨f, fun z => g (by omega)⟩
theorem pk_lt {x y : Int32} {A B : Prop} (a b : Nat) (f : a < b → A) (g : b ≤ a → B) (hx : x = nI a := by rfl) (hy : y = nI b := by rfl) (ha : a < 2 ^ 31 := by omega) (hb : b < 2 ^ 31 := by omega) : (x < y → A) ∧ (¬ x < y → B) := by
  subst hx hy
  rw [nI_ltI ha hb]
  exact ⟨f, fun z => g (by omega)⟩
theorem pk_eq {x y : Int32} {A B : Prop} (a b : Nat) (f : a = b → A) (g : a ≠ b → B) (hx : x = nI a := by rfl) (hy : y = nI b := by rfl) (ha : a < 2 ^ 31 := by omega) (hb : b < 2 ^ 31 := by omega) : (x = y → A) ∧ (¬ x = y → B) := by
  subst hx hy
  rw [nI_eq ha hb]
  exact ⟨f, g⟩
theorem pk_in {x : Int32} (n N : Nat) (h : n < N) (hx : x = nI n := by rfl) (hN : N < 2 ^ 31 := by omega) : vp_in x N := by
  subst hx
  exact vp_in_nI h hN
theorem pk_cl {x : Int32} (n : Nat) (hx : x = nI n := by rfl) (h : n < 2 ^ 31 := by omega) : x.toNatClampNeg = n := by
  subst hx
  exact nI_clamp h
theorem pk_least (P : Nat → Prop) (h : ∃ k, P k) : ∃ k, P k ∧ ∀ j, j < k → ¬ P j := by
  obtain ⟨k, hk⟩ := h
  induction k using Nat.strongRecOn with
  | ind k ih =>
    by_cases e : ∃ j, j < k ∧ P j
    · obtain ⟨j, hj, pj⟩ := e
      exact ih j hj pj
    · exact ⟨k, hk, fun j hj pj => e ⟨j, hj, pj⟩⟩
def bt (x : Int32) (i : Nat) : Bool := x.toBitVec.getLsbD i
theorem b_ext {x y : Int32} (h : ∀ i, i < 32 → bt x i = bt y i) : x = y := Int32.toBitVec_inj.mp (BitVec.eq_of_getLsbD_eq (fun i hi => h i hi))
theorem b_or (x y : Int32) (i : Nat) : bt (x ||| y) i = (bt x i || bt y i) := by unfold bt; rw [Int32.toBitVec_or, BitVec.getLsbD_or]
theorem b_and (x y : Int32) (i : Nat) : bt (x &&& y) i = (bt x i && bt y i) := by unfold bt; rw [Int32.toBitVec_and, BitVec.getLsbD_and]
theorem b_xor (x y : Int32) (i : Nat) : bt (x ^^^ y) i = (bt x i ^^ bt y i) := by unfold bt; rw [Int32.toBitVec_xor, BitVec.getLsbD_xor]
theorem b_big {x : Int32} {i : Nat} (h : 32 ≤ i) : bt x i = false := BitVec.getLsbD_of_ge _ _ h
theorem b_m1 : ∀ i, i < 32 → bt (-1) i = true := by decide +kernel
theorem b_0 (i : Nat) : bt 0 i = false := BitVec.getLsbD_zero
theorem s_l : ∀ n, n < 32 → ((nI n &&& 31).toBitVec.smod 32).toNat = n := by decide +kernel
theorem s_u : ∀ n, n < 32 → (((nI n).toUInt32 &&& Int32.toUInt32 31).toBitVec % 32).toNat = n := by decide +kernel
theorem b_shl (n : Nat) (hn : n < 32) (x : Int32) {i : Nat} (hi : i < 32) : bt (x <<< (nI n &&& 31)) i = (decide (n ≤ i) && bt x (i - n)) := by
  unfold bt
  rw [Int32.toBitVec_shiftLeft]
  show (x.toBitVec <<< ((nI n &&& 31).toBitVec.smod 32).toNat).getLsbD i = _
  rw [s_l n hn, BitVec.getLsbD_shiftLeft]
  rcases Nat.lt_or_ge i n with h | h
  · simp [h, Nat.not_le.mpr h]
  · simp [hi, h, Nat.not_lt.mpr h]
theorem b_ushr (n : Nat) (hn : n < 32) (x : Int32) (i : Nat) : bt ((x.toUInt32 >>> ((nI n).toUInt32 &&& Int32.toUInt32 31)).toInt32) i = bt x (n + i) := by
  show (x.toUInt32 >>> ((nI n).toUInt32 &&& Int32.toUInt32 31)).toBitVec.getLsbD i = x.toUInt32.toBitVec.getLsbD (n + i)
  rw [UInt32.toBitVec_shiftRight]
  show (x.toUInt32.toBitVec >>> (((nI n).toUInt32 &&& Int32.toUInt32 31).toBitVec % 32).toNat).getLsbD i = _
  rw [s_u n hn, BitVec.getLsbD_ushiftRight]
theorem b_sshr (n : Nat) (hn : n < 32) (x : Int32) {i : Nat} (hi : i < 32) : bt (x >>> (nI n &&& 31)) i = if n + i < 32 then bt x (n + i) else bt x 31 := by
  unfold bt
  rw [Int32.toBitVec_shiftRight]
  show (x.toBitVec.sshiftRight ((nI n &&& 31).toBitVec.smod 32).toNat).getLsbD i = _
  rw [s_l n hn, BitVec.getLsbD_sshiftRight, BitVec.msb_eq_getLsbD_last]
  simp [hi]
end
section
/-! ===== bits ===== -/
theorem es_b1 (i : Nat) : bt 1 i = decide (i = 0) := by
  rcases Nat.lt_or_ge i 32 with h | h
  · exact (by decide +kernel : ∀ i, i < 32 → bt 1 i = decide (i = 0)) i h
  · rw [b_big h, decide_eq_false (by omega)]
theorem es_bit {n : Nat} (hn : n < 32) (i : Nat) : bt ((1 : Int32) <<< (nI n &&& 31)) i = decide (i = n) := by
  rcases Nat.lt_or_ge i 32 with h | h
  · rw [b_shl n hn 1 h, es_b1]
    rcases Nat.lt_or_ge i n with q | q
    · rw [decide_eq_false (by omega : ¬ n ≤ i), decide_eq_false (by omega : ¬ i = n)]; rfl
    · rw [decide_eq_true q, Bool.true_and]
      exact decide_eq_decide.mpr (by omega)
  · rw [b_big h, decide_eq_false (by omega)]
theorem es_set {n : Nat} (hn : n < 32) (x : Int32) (i : Nat) : bt (x ||| ((1 : Int32) <<< (nI n &&& 31))) i = (bt x i || decide (i = n)) := by
  rw [b_or, es_bit hn]
theorem es_clr {n : Nat} (hn : n < 32) (x : Int32) (i : Nat) : bt (x &&& (((1 : Int32) <<< (nI n &&& 31)) ^^^ (-1))) i = (bt x i && !decide (i = n)) := by
  rcases Nat.lt_or_ge i 32 with h | h
  · rw [b_and, b_xor, es_bit hn, b_m1 i h, Bool.xor_true]
  · rw [b_big h, b_big h]; rfl
theorem es_val {n : Nat} (hn : n < 32) (x : Int32) : (((x.toUInt32 >>> ((nI n).toUInt32 &&& Int32.toUInt32 31)).toInt32) &&& 1) = if bt x n = true then 1 else 0 := by
  apply b_ext
  intro i hi
  rw [b_and, b_ushr n hn, es_b1]
  by_cases h0 : i = 0
  · subst h0
    rw [Nat.add_zero, decide_eq_true rfl, Bool.and_true]
    cases h : bt x n
    · rw [if_neg (by decide), b_0]
    · rw [if_pos rfl, es_b1]; rfl
  · rw [decide_eq_false h0, Bool.and_false]
    cases h : bt x n
    · rw [if_neg (by decide), b_0]
    · rw [if_pos rfl, es_b1, decide_eq_false h0]
theorem es_sval {n : Nat} (hn : n < 32) (x : Int32) : ((x >>> (nI n &&& 31)) &&& 1) = if bt x n = true then 1 else 0 := by
  apply b_ext
  intro i hi
  rw [b_and, b_sshr n hn x hi, es_b1]
  by_cases h0 : i = 0
  · subst h0
    rw [Nat.add_zero, if_pos hn, decide_eq_true rfl, Bool.and_true]
    cases h : bt x n
    · rw [if_neg (by decide), b_0]
    · rw [if_pos rfl, es_b1]; rfl
  · rw [decide_eq_false h0, Bool.and_false]
    cases h : bt x n
    · rw [if_neg (by decide), b_0]
    · rw [if_pos rfl, es_b1, decide_eq_false h0]
theorem es_tst {n : Nat} (hn : n < 32) (x : Int32) : (((x.toUInt32 >>> ((nI n).toUInt32 &&& Int32.toUInt32 31)).toInt32) &&& 1) = 0 ↔ bt x n = false := by
  rw [es_val hn]
  cases h : bt x n
  · exact ⟨fun _ => rfl, fun _ => if_neg (by decide)⟩
  · exact ⟨fun z => absurd ((if_pos rfl).symm.trans z) (by decide), fun z => absurd z (by decide)⟩
theorem es_stst {n : Nat} (hn : n < 32) (x : Int32) : ((x >>> (nI n &&& 31)) &&& 1) = 1 ↔ bt x n = true := by
  rw [es_sval hn]
  cases h : bt x n
  · exact ⟨fun z => absurd ((if_neg (by decide)).symm.trans z) (by decide), fun z => absurd z (by decide)⟩
  · exact ⟨fun _ => rfl, fun _ => if_pos rfl⟩
theorem es_nt {x : Bool} (h : ¬ x = false) : x = true := by cases x <;> trivial
theorem es_nf {x : Bool} (h : ¬ x = true) : x = false := by cases x <;> trivial
theorem es_nI (s : Nat) {i : Nat} (hi : i < 32) : bt (nI s) i = s.testBit i := by
  show (BitVec.ofNat 32 s).getLsbD i = _
  rw [BitVec.getLsbD_ofNat, decide_eq_true hi, Bool.true_and]
theorem es_lt28 {K : Int32} {y : Nat} (h : bt K y = true) : y < 32 := by
  rcases Nat.lt_or_ge y 32 with q | q
  · exact q
  · rw [b_big q] at h; exact absurd h (by decide)
/-! ===== counting ===== -/
def es_c (p : Nat → Bool) : Nat → Nat
  | 0 => 0
  | n + 1 => es_c p n + if p n = true then 1 else 0
theorem es_c_s (p : Nat → Bool) (n : Nat) : es_c p (n + 1) = es_c p n + if p n = true then 1 else 0 := rfl
theorem es_c_le (p : Nat → Bool) (n : Nat) : es_c p n ≤ n := by
  induction n with
  | zero => exact Nat.le_refl _
  | succ n ih =>
    rw [es_c_s]
    split <;> omega
theorem es_c_congr {p q : Nat → Bool} {n : Nat} (h : ∀ i, i < n → p i = q i) : es_c p n = es_c q n := by
  induction n with
  | zero => rfl
  | succ n ih => rw [es_c_s, es_c_s, ih (fun i hi => h i (by omega)), h n (by omega)]
theorem es_c_mono {p q : Nat → Bool} {n : Nat} (h : ∀ i, i < n → p i = true → q i = true) : es_c p n ≤ es_c q n := by
  induction n with
  | zero => exact Nat.le_refl _
  | succ n ih =>
    have a := ih (fun i hi => h i (by omega))
    rw [es_c_s, es_c_s]
    by_cases hp : p n = true
    · rw [if_pos hp, if_pos (h n (by omega) hp)]; omega
    · rw [if_neg hp]; omega
theorem es_c_lt {p q : Nat → Bool} {n j : Nat} (h : ∀ i, i < n → p i = true → q i = true) (hj : j < n) (hp : p j = false) (hq : q j = true) : es_c p n < es_c q n := by
  induction n with
  | zero => omega
  | succ n ih =>
    rw [es_c_s, es_c_s]
    by_cases e : j = n
    · subst e
      have a := es_c_mono (p := p) (q := q) (n := j) (fun i hi => h i (by omega))
      rw [hp, hq, if_pos rfl, if_neg (by decide)]
      omega
    · have a := ih (fun i hi => h i (by omega)) (by omega)
      by_cases hp : p n = true
      · rw [if_pos hp, if_pos (h n (by omega) hp)]; omega
      · rw [if_neg hp]; omega
theorem es_c_set {p q : Nat → Bool} {n j : Nat} (hj : j < n) (hp : p j = false) (h : ∀ i, q i = (p i || decide (i = j))) : es_c q n = es_c p n + 1 := by
  induction n with
  | zero => omega
  | succ n ih =>
    rw [es_c_s, es_c_s]
    by_cases e : j = n
    · subst e
      have a : es_c q j = es_c p j := es_c_congr (fun i hi => by rw [h, decide_eq_false (by omega), Bool.or_false])
      rw [h j, hp, decide_eq_true rfl, a]
      rfl
    · have a := ih (by omega)
      rw [h n, decide_eq_false (by omega), Bool.or_false, a]
      omega
theorem es_c_tail {p : Nat → Bool} {m n : Nat} (hm : m ≤ n) (h : ∀ i, m ≤ i → i < n → p i = false) : es_c p n = es_c p m := by
  induction n with
  | zero => rw [show m = 0 by omega]
  | succ n ih =>
    by_cases e : m = n + 1
    · rw [e]
    · rw [es_c_s, h n (by omega) (by omega), ih (by omega) (fun i a b => h i a (by omega))]
      rfl
/-! ===== closed sets ===== -/
def es_n (f : Nat → Int32) (t : Nat) : Nat := (f t).toNatClampNeg
def es_Ct (s : Int32) (a b t : Nat) (P : Nat → Prop) : Prop := (s = 1 → P t → P a ∧ P b) ∧ (s = 2 → P t → P a → P b) ∧ (¬ s = 0 → P a → P b → P t)
def es_Cl (T : Nat) (so lf rt : Nat → Int32) (P : Nat → Prop) : Prop := ∀ t, t < T → es_Ct (so t) (es_n lf t) (es_n rt t) t P
def es_L (T : Nat) (so lf rt : Nat → Int32) (H : Nat → Prop) (x : Nat) : Prop := ∀ P : Nat → Prop, es_Cl T so lf rt P → (∀ y, H y → P y) → P x
theorem es_Ct_congr {s : Int32} {a b t : Nat} {P P' : Nat → Prop} (h : ∀ y, P y ↔ P' y) (c : es_Ct s a b t P) : es_Ct s a b t P' := by
  have e : P = P' := funext (fun y => propext (h y))
  rw [← e]; exact c
section LC
variable {T : Nat} {so lf rt : Nat → Int32} {H H' P : Nat → Prop}
theorem es_L_in {x : Nat} (h : H x) : es_L T so lf rt H x := fun _ _ hH => hH x h
theorem es_L_cl : es_Cl T so lf rt (es_L T so lf rt H) := fun t ht =>
  ⟨fun s1 ht' => ⟨fun P hP hH => ((hP t ht).1 s1 (ht' P hP hH)).1, fun P hP hH => ((hP t ht).1 s1 (ht' P hP hH)).2⟩,
   fun s2 ht' ha P hP hH => (hP t ht).2.1 s2 (ht' P hP hH) (ha P hP hH),
   fun s0 ha hb P hP hH => (hP t ht).2.2 s0 (ha P hP hH) (hb P hP hH)⟩
theorem es_L_le {x : Nat} (hP : es_Cl T so lf rt P) (h : ∀ y, H y → P y) (hx : es_L T so lf rt H x) : P x := hx P hP h
theorem es_L_sub {x : Nat} (h : ∀ y, H y → es_L T so lf rt H' y) (hx : es_L T so lf rt H x) : es_L T so lf rt H' x := es_L_le es_L_cl h hx
theorem es_L_mono {x : Nat} (h : ∀ y, H y → H' y) (hx : es_L T so lf rt H x) : es_L T so lf rt H' x := es_L_sub (fun y hy => es_L_in (h y hy)) hx
theorem es_L_congr (h : ∀ y, H y ↔ H' y) (x : Nat) : es_L T so lf rt H x ↔ es_L T so lf rt H' x := ⟨es_L_mono (fun y => (h y).mp), es_L_mono (fun y => (h y).mpr)⟩
theorem es_L_eq (hP : es_Cl T so lf rt P) (h1 : ∀ y, H y → P y) (h2 : ∀ y, P y → es_L T so lf rt H y) (y : Nat) : P y ↔ es_L T so lf rt H y := ⟨h2 y, es_L_le hP h1⟩
theorem es_L_mix {Kp E : Nat → Prop} (hK : ∀ y, Kp y ↔ es_L T so lf rt H y) (x : Nat) : es_L T so lf rt (fun y => Kp y ∨ E y) x ↔ es_L T so lf rt (fun y => H y ∨ E y) x := by
  constructor
  · refine es_L_sub (fun y hy => ?_)
    rcases hy with h | h
    · exact es_L_mono (fun z hz => Or.inl hz) ((hK y).mp h)
    · exact es_L_in (Or.inr h)
  · refine es_L_mono (fun y hy => ?_)
    rcases hy with h | h
    · exact Or.inl ((hK y).mpr (es_L_in h))
    · exact Or.inr h
end LC
/-! ===== the terms ===== -/
def es_W (T : Nat) (so lf rt : Nat → Int32) : Prop := 8 ≤ T ∧ T ≤ 28 ∧ (∀ t, lf t = nI (es_n lf t) ∧ es_n lf t < T) ∧ (∀ t, rt t = nI (es_n rt t) ∧ es_n rt t < T) ∧ (∀ t, t < 8 → so t = 0) ∧ (∀ t, 8 ≤ t → t < T → so t = 1 ∨ so t = 2)
def es_U (T : Nat) (lf rt ui : Nat → Int32) : Prop := ∀ t, 8 ≤ t → t < T → bt (ui (es_n lf t)) t = true ∧ bt (ui (es_n rt t)) t = true
theorem es_L_lt {T : Nat} {so lf rt : Nat → Int32} {H : Nat → Prop} {x : Nat} (W : es_W T so lf rt) (h : ∀ y, H y → y < T) (hx : es_L T so lf rt H x) : x < T :=
  es_L_le (P := fun y => y < T) (fun t ht => ⟨fun _ _ => ⟨(W.2.2.1 t).2, (W.2.2.2.1 t).2⟩, fun _ _ _ => (W.2.2.2.1 t).2, fun _ _ _ => ht⟩) h hx
/-- a sort that isn't 0 or 1 is 2 -/
theorem es_so2 {T : Nat} {so lf rt : Nat → Int32} {t : Nat} (W : es_W T so lf rt) (ht : t < T) (h0 : ¬ so t = 0) (h1 : ¬ so t = 1) : so t = 2 := by
  rcases Nat.lt_or_ge t 8 with q | q
  · exact absurd (W.2.2.2.2.1 t q) h0
  · rcases W.2.2.2.2.2 t q ht with h | h
    · exact absurd h h1
    · exact h
theorem es_so0 {T : Nat} {so lf rt : Nat → Int32} {t : Nat} (W : es_W T so lf rt) (h8 : 8 ≤ t) (ht : t < T) : ¬ so t = 0 := by
  rcases W.2.2.2.2.2 t h8 ht with h | h <;> rw [h] <;> decide
theorem es_so8 {T : Nat} {so lf rt : Nat → Int32} {t : Nat} (W : es_W T so lf rt) (h0 : ¬ so t = 0) : 8 ≤ t := by
  rcases Nat.lt_or_ge t 8 with q | q
  · exact absurd (W.2.2.2.2.1 t q) h0
  · exact q
/-! ===== what still waits ===== -/
def es_Q (w : Nat) (st : Nat → Int32) (y : Nat) : Prop := ∃ i, i < w ∧ es_n st i = y
def es_SC (T : Nat) (so lf rt : Nat → Int32) (K Q : Nat → Prop) : Prop := ∀ t, t < T →
  (so t = 1 → K t → ¬ Q t → K (es_n lf t) ∧ K (es_n rt t)) ∧
  (so t = 2 → K t → K (es_n lf t) → ¬ Q t → ¬ Q (es_n lf t) → K (es_n rt t)) ∧
  (¬ so t = 0 → K (es_n lf t) → K (es_n rt t) → ¬ Q (es_n lf t) → ¬ Q (es_n rt t) → K t)
theorem es_SC_of {T : Nat} {so lf rt : Nat → Int32} {K Q : Nat → Prop} (h : es_Cl T so lf rt K) : es_SC T so lf rt K Q := fun t ht =>
  ⟨fun a b _ => (h t ht).1 a b, fun a b c _ _ => (h t ht).2.1 a b c, fun a b c _ _ => (h t ht).2.2 a b c⟩
theorem es_SC_cl {T : Nat} {so lf rt : Nat → Int32} {K Q : Nat → Prop} (h : es_SC T so lf rt K Q) (hQ : ∀ y, ¬ Q y) : es_Cl T so lf rt K := fun t ht =>
  ⟨fun a b => (h t ht).1 a b (hQ _), fun a b c => (h t ht).2.1 a b c (hQ _) (hQ _), fun a b c => (h t ht).2.2 a b c (hQ _) (hQ _)⟩
theorem es_SC_ext {T : Nat} {so lf rt : Nat → Int32} {K Q K' Q' : Nat → Prop} (h : es_SC T so lf rt K Q) (h1 : ∀ y, K y → K' y) (h2 : ∀ y, K' y → K y ∨ Q' y) (h3 : ∀ y, Q y → Q' y) : es_SC T so lf rt K' Q' := by
  have g : ∀ y, K' y → ¬ Q' y → K y ∧ ¬ Q y := fun y a b => ⟨(h2 y a).resolve_right b, fun q => b (h3 y q)⟩
  intro t ht
  refine ⟨fun s k q => ?_, fun s k ka q qa => ?_, fun s ka kb qa qb => ?_⟩
  · have x := (h t ht).1 s (g t k q).1 (g t k q).2
    exact ⟨h1 _ x.1, h1 _ x.2⟩
  · exact h1 _ ((h t ht).2.1 s (g t k q).1 (g _ ka qa).1 (g t k q).2 (g _ ka qa).2)
  · exact h1 _ ((h t ht).2.2 s (g _ ka qa).1 (g _ kb qb).1 (g _ ka qa).2 (g _ kb qb).2)
def es_I (P : Nat → Prop) (c : Nat) (K : Int32) (w : Nat) (st : Nat → Int32) : Prop := (∀ y, bt K y = true → P y) ∧ es_c (bt K) 28 = w + c ∧ (∀ i, i < w → st i = nI (es_n st i) ∧ bt K (es_n st i) = true)
def es_E (K : Int32) (w : Nat) (st : Nat → Int32) (K' : Int32) (w' : Nat) (st' : Nat → Int32) : Prop := (∀ y, bt K y = true → bt K' y = true) ∧ (∀ y, bt K' y = true → bt K y = true ∨ es_Q w' st' y) ∧ (∀ y, es_Q w st y → es_Q w' st' y)
theorem es_E_rf {K : Int32} {w : Nat} {st : Nat → Int32} : es_E K w st K w st := ⟨fun _ h => h, fun _ h => Or.inl h, fun _ h => h⟩
theorem es_E_tr {K K1 K2 : Int32} {w w1 w2 : Nat} {st st1 st2 : Nat → Int32} (a : es_E K w st K1 w1 st1) (b : es_E K1 w1 st1 K2 w2 st2) : es_E K w st K2 w2 st2 :=
  ⟨fun y h => b.1 y (a.1 y h), fun y h => by
    rcases b.2.1 y h with q | q
    · rcases a.2.1 y q with z | z
      · exact Or.inl z
      · exact Or.inr (b.2.2 y z)
    · exact Or.inr q, fun y h => b.2.2 y (a.2.2 y h)⟩
theorem es_E_SC {T : Nat} {so lf rt : Nat → Int32} {D : Nat → Prop} {K K' : Int32} {w w' : Nat} {st st' : Nat → Int32} (e : es_E K w st K' w' st') (h : es_SC T so lf rt (fun y => bt K y = true) (fun y => es_Q w st y ∨ D y)) : es_SC T so lf rt (fun y => bt K' y = true) (fun y => es_Q w' st' y ∨ D y) :=
  es_SC_ext h e.1 (fun y q => (e.2.1 y q).imp id Or.inl) (fun y q => q.imp (e.2.2 y) id)
/-- one term more -/
theorem es_learn {P : Nat → Prop} {c : Nat} {K : Int32} {w : Nat} {st : Nat → Int32} {y : Nat} (I : es_I P c K w st) (hy : P y) (h28 : y < 28) (hk : bt K y = false) :
    w < 28 ∧ es_I P c (K ||| ((1 : Int32) <<< (nI y &&& 31))) (w + 1) (upd st w (nI y)) ∧ es_E K w st (K ||| ((1 : Int32) <<< (nI y &&& 31))) (w + 1) (upd st w (nI y)) ∧ bt (K ||| ((1 : Int32) <<< (nI y &&& 31))) y = true := by
  have hb : ∀ i, bt (K ||| ((1 : Int32) <<< (nI y &&& 31))) i = (bt K i || decide (i = y)) := es_set (by omega) K
  have hc : es_c (bt (K ||| ((1 : Int32) <<< (nI y &&& 31)))) 28 = es_c (bt K) 28 + 1 := es_c_set h28 hk hb
  have hle := es_c_le (bt (K ||| ((1 : Int32) <<< (nI y &&& 31)))) 28
  have hI := I.2.1
  generalize K ||| ((1 : Int32) <<< (nI y &&& 31)) = K' at hb hc hle ⊢
  have hn : es_n (upd st w (nI y)) w = y := by
    show (upd st w (nI y) w).toNatClampNeg = y
    rw [pk_us, nI_clamp (by omega)]
  have ho : ∀ i, i < w → upd st w (nI y) i = st i := fun i hi => pk_un (by omega)
  have hon : ∀ i, i < w → es_n (upd st w (nI y)) i = es_n st i := fun i hi => by
    show (upd st w (nI y) i).toNatClampNeg = (st i).toNatClampNeg
    rw [ho i hi]
  have hyy : bt K' y = true := by rw [hb, decide_eq_true rfl, Bool.or_true]
  have hup : ∀ i, bt K i = true → bt K' i = true := fun i hi => by rw [hb, hi, Bool.true_or]
  refine ⟨by omega, ⟨fun z hz => ?_, by omega, fun i hi => ?_⟩, ⟨hup, fun z hz => ?_, fun z hz => ?_⟩, hyy⟩
  · rw [hb] at hz
    by_cases e : z = y
    · rw [e]; exact hy
    · rw [decide_eq_false e, Bool.or_false] at hz
      exact I.1 z hz
  · by_cases e : i = w
    · subst e
      rw [hn, pk_us]
      exact ⟨rfl, hyy⟩
    · have q := I.2.2 i (by omega)
      rw [hon i (by omega), ho i (by omega)]
      exact ⟨q.1, hup _ q.2⟩
  · rw [hb] at hz
    by_cases e : z = y
    · exact Or.inr ⟨w, by omega, by rw [hn, e]⟩
    · rw [decide_eq_false e, Bool.or_false] at hz
      exact Or.inl hz
  · obtain ⟨i, hi, e⟩ := hz
    exact ⟨i, by omega, by rw [hon i hi, e]⟩
/-- the top is taken -/
theorem es_pop {P : Nat → Prop} {c : Nat} {K : Int32} {w : Nat} {st : Nat → Int32} (I : es_I P c K (w + 1) st) : es_I P (c + 1) K w st :=
  ⟨I.1, by have := I.2.1; omega, fun i hi => I.2.2 i (by omega)⟩
theorem es_popQ {w : Nat} {st : Nat → Int32} {y : Nat} (h : es_Q (w + 1) st y) : es_Q w st y ∨ y = es_n st w := by
  obtain ⟨i, hi, e⟩ := h
  by_cases q : i = w
  · exact Or.inr (by rw [← e, q])
  · exact Or.inl ⟨i, by omega, e⟩
def es_D (so lf rt : Nat → Int32) (K K' : Int32) (u : Nat) : Prop := (bt K (es_n lf u) = true → bt K (es_n rt u) = true → bt K' u = true) ∧ (so u = 2 → bt K u = true → bt K (es_n lf u) = true → bt K' (es_n rt u) = true)
theorem es_D_mono {so lf rt : Nat → Int32} {K0 K1 K2 K3 : Int32} {u : Nat} (a : ∀ y, bt K0 y = true → bt K1 y = true) (b : ∀ y, bt K2 y = true → bt K3 y = true) (h : es_D so lf rt K1 K2 u) : es_D so lf rt K0 K3 u :=
  ⟨fun x y => b _ (h.1 (a _ x) (a _ y)), fun s x y => b _ (h.2 s (a _ x) (a _ y))⟩
def es_O (T : Nat) (so lf rt ui : Nat → Int32) (K K' : Int32) (t : Nat) : Prop := (so t = 1 → bt K' (es_n lf t) = true ∧ bt K' (es_n rt t) = true) ∧ (so t = 2 → bt K (es_n lf t) = true → bt K' (es_n rt t) = true) ∧ (∀ u, 8 ≤ u → u < T → bt (ui t) u = true → es_D so lf rt K K' u)
/-- a term that was looked at waits no more -/
theorem es_O_SC {T : Nat} {so lf rt ui : Nat → Int32} {K K' : Int32} {w w' : Nat} {st st' : Nat → Int32} {t : Nat} (W : es_W T so lf rt) (U : es_U T lf rt ui) (hk : bt K t = true) (e : es_E K w st K' w' st') (o : es_O T so lf rt ui K K' t) (h : es_SC T so lf rt (fun y => bt K y = true) (fun y => es_Q w st y ∨ y = t)) : es_SC T so lf rt (fun y => bt K' y = true) (es_Q w' st') := by
  have h' := es_E_SC e h
  have g : ∀ y, bt K' y = true → ¬ es_Q w' st' y → bt K y = true := fun y a b => (e.2.1 y a).resolve_right b
  have nq : ∀ y, ¬ es_Q w' st' y → ¬ y = t → ¬ (es_Q w' st' y ∨ y = t) := fun y a b c => c.elim a b
  intro x hx
  refine ⟨fun s k q => ?_, fun s k ka q qa => ?_, fun s ka kb qa qb => ?_⟩
  · by_cases et : x = t
    · rw [et] at s ⊢; exact o.1 s
    · exact (h' x hx).1 s k (nq _ q et)
  · by_cases et : x = t
    · rw [et] at s ka qa ⊢; exact o.2.1 s (g _ ka qa)
    · by_cases ea : es_n lf x = t
      · have h8 : 8 ≤ x := es_so8 W (by rw [s]; decide)
        have hu := (U x h8 hx).1
        rw [ea] at hu
        exact (o.2.2 x h8 hx hu).2 s (g _ k q) (g _ ka qa)
      · exact (h' x hx).2.1 s k ka (nq _ q et) (nq _ qa ea)
  · have h8 : 8 ≤ x := es_so8 W s
    by_cases ea : es_n lf x = t
    · have hu := (U x h8 hx).1
      rw [ea] at hu
      exact (o.2.2 x h8 hx hu).1 (g _ ka qa) (g _ kb qb)
    · by_cases eb : es_n rt x = t
      · have hu := (U x h8 hx).2
        rw [eb] at hu
        exact (o.2.2 x h8 hx hu).1 (g _ ka qa) (g _ kb qb)
      · exact (h' x hx).2.2 s ka kb (nq _ qa ea) (nq _ qb eb)
end
section
/-! ===== the component's walks ===== -/
section XW
variable {T : Nat} {hd : Int32} {so lf rt ui : Nat → Int32} {P : Nat → Prop}
theorem xw_kn {A B : Prop} {f K w : Int32} {st : Nat → Int32} {x : Int32} (y : Nat) (hx : x = nI y) (hy : y < 32) (h1 : bt K y = true → B) (h0 : bt K y = false → A) : wpX_isKnown (fun r => (r = 0 → A) ∧ (¬ r = 0 → B)) (f, hd, K, w, so, lf, rt, ui, st) x := by
  subst hx
  exact br_c (fun h => br_t rfl (h0 ((es_tst hy K).mp h))) (fun h => br_f (by decide) (h1 (es_nt (fun z => h ((es_tst hy K).mpr z)))))
theorem xw_learn {post : SX → Prop} {K : Int32} {st : Nat → Int32} {w c y : Nat} {x : Int32} (hx : x = nI y) (hT : T ≤ 28) (hP : ∀ y, P y → y < T) (I : es_I P c K w st) (hy : P y)
    (h : ∀ K' w' st', es_I P c K' w' st' → es_E K w st K' w' st' → bt K' y = true → post (nI T, hd, K', nI w', so, lf, rt, ui, st')) : wpX_learn post (nI T, hd, K, nI w, so, lf, rt, ui, st) x := by
  subst hx
  have y28 : y < 28 := Nat.lt_of_lt_of_le (hP y hy) hT
  unfold wpX_learn
  refine xw_kn y rfl (by omega) (fun hk => h K w st I es_E_rf hk) (fun hk => ?_)
  obtain ⟨hw, I', E', hk'⟩ := es_learn I hy y28 hk
  exact nm_e ⟨vp_in_nI hw (by decide), nm_r (e' := upd st w (nI y)) (by rw [nI_clamp (by omega)]) (nm_r (e' := nI (w + 1)) (nI_1 w) (h _ _ _ I' E' hk'))⟩
theorem xw_look34 {post : SX → Prop} {K : Int32} {st : Nat → Int32} {w c u : Nat} (W : es_W T so lf rt) (hC : es_Cl T so lf rt P) (hP : ∀ y, P y → y < T) (I : es_I P c K w st) (h8 : 8 ≤ u) (hu : u < T) (hn : ¬ (bt K (es_n lf u) = true ∧ bt K (es_n rt u) = true))
    (h : ∀ K' w' st', es_I P c K' w' st' → es_E K w st K' w' st' → es_D so lf rt K K' u → post (nI T, hd, K', nI w', so, lf, rt, ui, st')) : wX_lookAt_34 post (nI u) (nI T) hd K (nI w) so lf rt ui st := by
  have hT := W.2.1
  have eu : (nI u).toNatClampNeg = u := nI_clamp (by omega)
  have hi : vp_in (nI u) 28 := vp_in_nI (by omega) (by decide)
  have el : lf (nI u).toNatClampNeg = nI (es_n lf u) := by rw [eu]; exact (W.2.2.1 u).1
  have er : rt (nI u).toNatClampNeg = nI (es_n rt u) := by rw [eu]; exact (W.2.2.2.1 u).1
  have hl := (W.2.2.1 u).2
  have hr := (W.2.2.2.1 u).2
  have stay : (so u = 2 → bt K u = true → bt K (es_n lf u) = true → False) → post (nI T, hd, K, nI w, so, lf, rt, ui, st) := fun z =>
    h K w st I es_E_rf ⟨fun a b => absurd ⟨a, b⟩ hn, fun a b c => (z a b c).elim⟩
  unfold wX_lookAt_34
  refine ⟨hi, br_c (fun s1 => ?_) (fun s1 => ?_)⟩
  · rw [eu] at s1
    exact stay (fun s2 => by rw [s1] at s2; exact absurd s2 (by decide))
  · rw [eu] at s1
    have s2 : so u = 2 := es_so2 W hu (es_so0 W h8 hu) s1
    refine xw_kn u rfl (by omega) (fun k1 => ⟨hi, ?_⟩) (fun k1 => stay (fun _ b => by rw [k1] at b; exact absurd b (by decide)))
    refine xw_kn (es_n lf u) el (by omega) (fun k2 => ⟨hi, ?_⟩) (fun k2 => stay (fun _ _ b => by rw [k2] at b; exact absurd b (by decide)))
    refine xw_learn (y := es_n rt u) er hT hP I ((hC u hu).2.1 s2 (I.1 u k1) (I.1 _ k2)) (fun K' w' st' I' E' k' => ?_)
    exact h K' w' st' I' E' ⟨fun a b => absurd ⟨a, b⟩ hn, fun _ _ _ => k'⟩
theorem xw_look {post : SX → Prop} {K : Int32} {st : Nat → Int32} {w c u : Nat} (W : es_W T so lf rt) (hC : es_Cl T so lf rt P) (hP : ∀ y, P y → y < T) (I : es_I P c K w st) (h8 : 8 ≤ u) (hu : u < T)
    (h : ∀ K' w' st', es_I P c K' w' st' → es_E K w st K' w' st' → es_D so lf rt K K' u → post (nI T, hd, K', nI w', so, lf, rt, ui, st')) : wpX_lookAt post (nI T, hd, K, nI w, so, lf, rt, ui, st) (nI u) := by
  have hT := W.2.1
  have eu : (nI u).toNatClampNeg = u := nI_clamp (by omega)
  have hi : vp_in (nI u) 28 := vp_in_nI (by omega) (by decide)
  have el : lf (nI u).toNatClampNeg = nI (es_n lf u) := by rw [eu]; exact (W.2.2.1 u).1
  have er : rt (nI u).toNatClampNeg = nI (es_n rt u) := by rw [eu]; exact (W.2.2.2.1 u).1
  have hl := (W.2.2.1 u).2
  have hr := (W.2.2.2.1 u).2
  unfold wpX_lookAt
  refine ⟨hi, ?_⟩
  refine xw_kn (es_n lf u) el (by omega) (fun k1 => ⟨hi, ?_⟩) (fun k1 => xw_look34 W hC hP I h8 hu (fun b => by rw [k1] at b; exact absurd b.1 (by decide)) h)
  refine xw_kn (es_n rt u) er (by omega) (fun k2 => ?_) (fun k2 => xw_look34 W hC hP I h8 hu (fun b => by rw [k2] at b; exact absurd b.2 (by decide)) h)
  refine xw_learn (y := u) rfl hT hP I ((hC u hu).2.2 (es_so0 W h8 hu) (I.1 _ k1) (I.1 _ k2)) (fun K' w' st' I' E' k' => ?_)
  exact h K' w' st' I' E' ⟨fun _ _ => k', fun _ _ _ => E'.1 _ k2⟩
theorem xw_open68 {post : SX → Prop} {c t : Nat} {K0 : Int32} {w0 : Nat} {st0 : Nat → Int32} (W : es_W T so lf rt) (hC : es_Cl T so lf rt P) (hP : ∀ y, P y → y < T) (ht : t < T)
    (h : ∀ K' w' st', es_I P c K' w' st' → es_E K0 w0 st0 K' w' st' → (∀ u, 8 ≤ u → u < T → bt (ui t) u = true → es_D so lf rt K0 K' u) → post (nI T, hd, K', nI w', so, lf, rt, ui, st')) :
    ∀ n i K w st, 8 ≤ i → i ≤ T → T - i < n → es_I P c K w st → es_E K0 w0 st0 K w st → (∀ u, 8 ≤ u → u < i → bt (ui t) u = true → es_D so lf rt K0 K u) → wX_open_68 post (nI t) n (nI i) (nI T) hd K (nI w) so lf rt ui st := by
  have hT := W.2.1
  have et : (nI t).toNatClampNeg = t := nI_clamp (by omega)
  intro n
  induction n with
  | zero => intro i K w st _ _ hn; omega
  | succ n ih =>
    intro i K w st h8 hi hn I E D
    refine pk_le T i (fun z => h K w st I E (fun u a1 a2 => D u a1 (by omega))) (fun z => ⟨vp_in_nI (by omega) (by decide), br_c (fun b => ?_) (fun b => ?_)⟩)
    · rw [et, es_tst (by omega)] at b
      refine nm_r (nI_1 i) (ih (i + 1) K w st (by omega) (by omega) (by omega) I E (fun u a1 a2 a3 => ?_))
      by_cases q : u = i
      · rw [q, b] at a3; exact absurd a3 (by decide)
      · exact D u a1 (by omega) a3
    · refine xw_look W hC hP I h8 (by omega) (fun K' w' st' I' E' d => ?_)
      refine nm_r (nI_1 i) (ih (i + 1) K' w' st' (by omega) (by omega) (by omega) I' (es_E_tr E E') (fun u a1 a2 a3 => ?_))
      by_cases q : u = i
      · rw [q]; exact es_D_mono E.1 (fun _ z => z) d
      · exact es_D_mono (fun _ z => z) E'.1 (D u a1 (by omega) a3)
theorem xw_open {post : SX → Prop} {c t : Nat} {K : Int32} {w : Nat} {st : Nat → Int32} {x : Int32} (W : es_W T so lf rt) (hC : es_Cl T so lf rt P) (hP : ∀ y, P y → y < T) (I : es_I P c K w st) (hk : bt K t = true) (hx : x = nI t)
    (h : ∀ K' w' st', es_I P c K' w' st' → es_E K w st K' w' st' → es_O T so lf rt ui K K' t → post (nI T, hd, K', nI w', so, lf, rt, ui, st')) : wpX_open post (nI T, hd, K, nI w, so, lf, rt, ui, st) x := by
  subst hx
  have hT := W.2.1
  have hPt := I.1 t hk
  have ht : t < T := hP t hPt
  have et : (nI t).toNatClampNeg = t := nI_clamp (by omega)
  have hi : vp_in (nI t) 28 := vp_in_nI (by omega) (by decide)
  have el : lf (nI t).toNatClampNeg = nI (es_n lf t) := by rw [et]; exact (W.2.2.1 t).1
  have er : rt (nI t).toNatClampNeg = nI (es_n rt t) := by rw [et]; exact (W.2.2.2.1 t).1
  have hl := (W.2.2.1 t).2
  have hr := (W.2.2.2.1 t).2
  have lp : ∀ K1 w1 st1, es_I P c K1 w1 st1 → es_E K w st K1 w1 st1 → (so t = 1 → bt K1 (es_n lf t) = true ∧ bt K1 (es_n rt t) = true) → (so t = 2 → bt K (es_n lf t) = true → bt K1 (es_n rt t) = true) → ∃ n, wX_open_68 post (nI t) n 8 (nI T) hd K1 (nI w1) so lf rt ui st1 := by
    intro K1 w1 st1 I1 E1 o1 o2
    exact ⟨T + 1, xw_open68 (K0 := K1) (w0 := w1) (st0 := st1) W hC hP ht (fun K' w' st' I' E' d => h K' w' st' I' (es_E_tr E1 E') ⟨fun s => ⟨E'.1 _ (o1 s).1, E'.1 _ (o1 s).2⟩, fun s a => E'.1 _ (o2 s a), fun u a1 a2 a3 => es_D_mono E1.1 (fun _ z => z) (d u a1 a2 a3)⟩) (T + 1) 8 K1 w1 st1 (by omega) W.1 (by omega) I1 es_E_rf (fun u a1 a2 => by omega)⟩
  unfold wpX_open
  refine ⟨hi, br_c (fun s1 => ⟨hi, ?_⟩) (fun s1 => ⟨hi, br_c (fun s0 => ?_) (fun s0 => ⟨hi, ?_⟩)⟩)⟩
  · rw [et] at s1
    have hp := (hC t ht).1 s1 hPt
    refine xw_learn (y := es_n lf t) el hT hP I hp.1 (fun K1 w1 st1 I1 E1 k1 => ⟨hi, ?_⟩)
    refine xw_learn (y := es_n rt t) er hT hP I1 hp.2 (fun K2 w2 st2 I2 E2 k2 => ?_)
    exact lp K2 w2 st2 I2 (es_E_tr E1 E2) (fun _ => ⟨E2.1 _ k1, k2⟩) (fun _ _ => k2)
  · rw [et] at s0
    exact lp K w st I es_E_rf (fun s => by rw [s0] at s; exact absurd s (by decide)) (fun s => by rw [s0] at s; exact absurd s (by decide))
  · rw [et] at s0 s1
    have s2 := es_so2 W ht s0 s1
    refine xw_kn (es_n lf t) el (by omega) (fun k1 => ⟨hi, ?_⟩) (fun k1 => lp K w st I es_E_rf (fun s => absurd s s1) (fun _ a => by rw [k1] at a; exact absurd a (by decide)))
    refine xw_learn (y := es_n rt t) er hT hP I ((hC t ht).2.1 s2 hPt (I.1 _ k1)) (fun K2 w2 st2 I2 E2 k2 => ?_)
    exact lp K2 w2 st2 I2 E2 (fun s => absurd s s1) (fun _ _ => k2)
theorem xw_spread2 {post : SX → Prop} {K0 : Int32} (W : es_W T so lf rt) (U : es_U T lf rt ui) (hC : es_Cl T so lf rt P) (hP : ∀ y, P y → y < T)
    (h : ∀ K' st', (∀ y, bt K' y = true → P y) → es_Cl T so lf rt (fun y => bt K' y = true) → (∀ y, bt K0 y = true → bt K' y = true) → post (nI T, hd, K', 0, so, lf, rt, ui, st')) :
    ∀ n p c K w st, p ≤ 28 → 28 - p < n → p ≤ c → es_I P c K w st → es_SC T so lf rt (fun y => bt K y = true) (es_Q w st) → (∀ y, bt K0 y = true → bt K y = true) → wX_spread_2 post n (nI p) (nI T) hd K (nI w) so lf rt ui st := by
  intro n
  induction n with
  | zero => intro p c K w st _ hn; omega
  | succ n ih =>
    intro p c K w st hp hn hc I S hK
    have hle := es_c_le (bt K) 28
    have hI := I.2.1
    have fin : w = 0 → post (nI T, hd, K, nI w, so, lf, rt, ui, st) := fun e => by
      subst e
      exact h K st I.1 (es_SC_cl S (fun y z => by obtain ⟨i, hi, _⟩ := z; omega)) hK
    refine pk_le 28 p (fun z => fin (by omega)) (fun z => pk_le w 0 (fun q => fin (by omega)) (fun q => ?_))
    obtain ⟨w1, rfl⟩ : ∃ w1, w = w1 + 1 := ⟨w - 1, by omega⟩
    refine nm_r (nI_pred w1) ⟨vp_in_nI (by omega) (by decide), ?_⟩
    have q := I.2.2 w1 (by omega)
    refine xw_open (t := es_n st w1) W hC hP (es_pop I) q.2 (by rw [nI_clamp (by omega)]; exact q.1) (fun K' w' st' I' E' o => ?_)
    exact nm_r (nI_1 p) (ih (p + 1) (c + 1) K' w' st' (by omega) (by omega) (by omega) I' (es_O_SC W U q.2 E' o (es_SC_ext S (fun _ z => z) (fun _ z => Or.inl z) (fun y z => es_popQ z))) (fun y z => E'.1 y (hK y z)))
theorem xw_spread {post : SX → Prop} {K : Int32} {w c : Nat} {st : Nat → Int32} (W : es_W T so lf rt) (U : es_U T lf rt ui) (hC : es_Cl T so lf rt P) (hP : ∀ y, P y → y < T) (I : es_I P c K w st) (S : es_SC T so lf rt (fun y => bt K y = true) (es_Q w st))
    (h : ∀ K' st', (∀ y, bt K' y = true → P y) → es_Cl T so lf rt (fun y => bt K' y = true) → (∀ y, bt K y = true → bt K' y = true) → post (nI T, hd, K', 0, so, lf, rt, ui, st')) : wpX_spread post (nI T, hd, K, nI w, so, lf, rt, ui, st) :=
  ⟨29, xw_spread2 W U hC hP h 29 0 c K w st (by omega) (by omega) (by omega) I S (fun _ z => z)⟩
theorem xw_all2 {post : SX → Prop} {set K0 : Int32} {st0 : Nat → Int32} (W : es_W T so lf rt) (U : es_U T lf rt ui) (hC : es_Cl T so lf rt P) (hP : ∀ y, P y → y < T) (hset : ∀ y, y < T → bt set y = true → P y) (hK0 : es_Cl T so lf rt (fun y => bt K0 y = true))
    (h : ∀ K' st', (∀ y, bt K' y = true → P y) → es_Cl T so lf rt (fun y => bt K' y = true) → (∀ y, bt K0 y = true → bt K' y = true) → (∀ y, y < T → bt set y = true → bt K' y = true) → post (nI T, hd, K', 0, so, lf, rt, ui, st')) :
    ∀ n i c K w st, i ≤ T → T - i < n → es_I P c K w st → es_E K0 0 st0 K w st → (∀ u, u < i → bt set u = true → bt K u = true) → wX_learnAll_2 post set n (nI i) (nI T) hd K (nI w) so lf rt ui st := by
  have hT := W.2.1
  intro n
  induction n with
  | zero => intro i c K w st _ hn; omega
  | succ n ih =>
    intro i c K w st hi hn I E D
    refine pk_le T i (fun z => ?_) (fun z => br_c (fun b => ?_) (fun b => ?_))
    · refine xw_spread W U hC hP I (es_SC_ext (es_SC_of hK0 (Q := es_Q 0 st0)) E.1 E.2.1 E.2.2) (fun K' st' h1 h2 h3 => ?_)
      exact h K' st' h1 h2 (fun y q => h3 y (E.1 y q)) (fun y q1 q2 => h3 y (D y (by omega) q2))
    · rw [es_tst (by omega)] at b
      refine nm_r (nI_1 i) (ih (i + 1) c K w st (by omega) (by omega) I E (fun u a1 a2 => ?_))
      by_cases q : u = i
      · rw [q, b] at a2; exact absurd a2 (by decide)
      · exact D u (by omega) a2
    · rw [es_tst (by omega)] at b
      refine xw_learn (y := i) rfl hT hP I (hset i z (es_nt b)) (fun K' w' st' I' E' k' => ?_)
      refine nm_r (nI_1 i) (ih (i + 1) c K' w' st' (by omega) (by omega) I' (es_E_tr E E') (fun u a1 a2 => ?_))
      by_cases q : u = i
      · rw [q]; exact k'
      · exact E'.1 u (D u (by omega) a2)
theorem xw_all {post : SX → Prop} {set K : Int32} {st : Nat → Int32} (W : es_W T so lf rt) (U : es_U T lf rt ui) (hK : ∀ y, bt K y = true → y < T) (hKc : es_Cl T so lf rt (fun y => bt K y = true))
    (h : ∀ K' st', (∀ y, bt K' y = true ↔ es_L T so lf rt (fun y => bt K y = true ∨ (y < T ∧ bt set y = true)) y) → post (nI T, hd, K', 0, so, lf, rt, ui, st')) : wpX_learnAll post (nI T, hd, K, 0, so, lf, rt, ui, st) set := by
  have hT := W.2.1
  refine ⟨T + 1, xw_all2 (P := es_L T so lf rt (fun y => bt K y = true ∨ (y < T ∧ bt set y = true))) (K0 := K) (st0 := st) W U es_L_cl (fun y => es_L_lt W (fun z hz => hz.elim (hK z) (fun q => q.1))) (fun y a b => es_L_in (Or.inr ⟨a, b⟩)) hKc (fun K' st' h1 h2 h3 h4 => ?_) (T + 1) 0 (es_c (bt K) 28) K 0 st (by omega) (by omega) ⟨fun y hy => es_L_in (Or.inl hy), by omega, fun i hi => by omega⟩ es_E_rf (fun u hu => by omega)⟩
  exact h K' st' (fun y => es_L_eq h2 (fun z hz => hz.elim (h3 z) (fun q => h4 z q.1 q.2)) h1 y)
end XW
end
section
/-! ===== the reference's walks ===== -/
def ey_K (k : Nat → Int32) (y : Nat) : Prop := y < 28 ∧ ¬ k y = 0
def ey_b (k : Nat → Int32) (y : Nat) : Bool := decide (¬ k y = 0)
def ey_E (k : Nat → Int32) (ch : Int32) (k' : Nat → Int32) (ch' : Int32) : Prop := (∀ y, ey_K k y → ey_K k' y) ∧ ((ch' = ch ∧ ∀ y, ey_K k' y → ey_K k y) ∨ (ch' = 1 ∧ es_c (ey_b k) 28 < es_c (ey_b k') 28))
def ey_In (hY : Nat → Int32) (x1 x2 x3 : Int32) (z : Nat) : Prop := (¬ hY z = 0 ∧ ¬ nI z = x3) ∨ nI z = x1 ∨ (z < 8 ∧ bt x2 z = true)
theorem ey_E_rf {k : Nat → Int32} {ch : Int32} : ey_E k ch k ch := ⟨fun _ z => z, Or.inl ⟨rfl, fun _ z => z⟩⟩
theorem ey_c_le {k k' : Nat → Int32} (h : ∀ y, ey_K k y → ey_K k' y) : es_c (ey_b k) 28 ≤ es_c (ey_b k') 28 :=
  es_c_mono (fun i hi a => decide_eq_true (h i ⟨hi, of_decide_eq_true a⟩).2)
theorem ey_E_tr {k k1 k2 : Nat → Int32} {ch ch1 ch2 : Int32} (a : ey_E k ch k1 ch1) (b : ey_E k1 ch1 k2 ch2) : ey_E k ch k2 ch2 := by
  have ca := ey_c_le a.1
  have cb := ey_c_le b.1
  refine ⟨fun y z => b.1 y (a.1 y z), ?_⟩
  rcases b.2 with ⟨e, s⟩ | ⟨e, s⟩
  · rcases a.2 with ⟨e', s'⟩ | ⟨e', s'⟩
    · exact Or.inl ⟨e.trans e', fun y z => s' y (s y z)⟩
    · exact Or.inr ⟨e.trans e', by omega⟩
  · exact Or.inr ⟨e, by omega⟩
section YW
variable {T : Nat} {so lf rt hY : Nat → Int32} {P : Nat → Prop}
theorem yw_learn {post : SY → Prop} {ch : Int32} {k : Nat → Int32} {y : Nat} {x : Int32} (hx : x = nI y) (hy : y < 28)
    (h : ∀ k' ch', ey_E k ch k' ch' → (∀ z, ey_K k' z ↔ ey_K k z ∨ z = y) → post (nI T, ch', so, lf, rt, hY, k')) : wpY_learn post (nI T, ch, so, lf, rt, hY, k) x := by
  subst hx
  have en : (nI y).toNatClampNeg = y := nI_clamp (by omega)
  have hi : vp_in (nI y) 28 := vp_in_nI hy (by decide)
  have e1 : upd k (nI y).toNatClampNeg (vp_nar .boolean 1) = upd k y 1 := by rw [en]; rfl
  have hs : ∀ z, ey_K (upd k y 1) z ↔ ey_K k z ∨ z = y := by
    intro z
    by_cases e : z = y
    · subst e
      exact ⟨fun _ => Or.inr rfl, fun _ => ⟨hy, by rw [pk_us]; decide⟩⟩
    · unfold ey_K
      rw [pk_un e]
      exact ⟨Or.inl, fun q => q.resolve_right e⟩
  have up : ∀ z, ey_K k z → ey_K (upd k y 1) z := fun z q => (hs z).mpr (Or.inl q)
  unfold wpY_learn
  refine ⟨hi, br_c (fun b => ⟨hi, nm_r e1 ?_⟩) (fun b => ⟨hi, nm_r e1 ?_⟩)⟩
  · rw [en] at b
    refine h _ _ ⟨up, Or.inr ⟨rfl, es_c_lt (j := y) (fun i hi a => decide_eq_true (up i ⟨hi, of_decide_eq_true a⟩).2) hy (decide_eq_false (fun z => z b)) (decide_eq_true ?_)⟩⟩ hs
    rw [pk_us]; decide
  · rw [en] at b
    exact h _ _ ⟨up, Or.inl ⟨rfl, fun z q => ((hs z).mp q).elim id (fun e => by rw [e]; exact ⟨hy, b⟩)⟩⟩ hs
theorem yw_76 {post : SY → Prop} {ch : Int32} {k : Nat → Int32} {t : Nat} (W : es_W T so lf rt) (hC : es_Cl T so lf rt P) (ht : t < T) (hk : ∀ y, ey_K k y → P y)
    (f1 : so t = 1 → ey_K k t → ey_K k (es_n lf t) ∧ ey_K k (es_n rt t)) (f2 : so t = 2 → ey_K k t → ey_K k (es_n lf t) → ey_K k (es_n rt t))
    (h : ∀ k' ch', ey_E k ch k' ch' → (∀ y, ey_K k' y → P y) → es_Ct (so t) (es_n lf t) (es_n rt t) t (ey_K k') → post (nI T, ch', so, lf, rt, hY, k')) : wY_apply_76 post (nI t) (nI (es_n lf t)) (nI (es_n rt t)) (nI T) ch so lf rt hY k := by
  have hT := W.2.1
  have hl := (W.2.2.1 t).2
  have hr := (W.2.2.2.1 t).2
  have et : (nI t).toNatClampNeg = t := nI_clamp (by omega)
  have el : (nI (es_n lf t)).toNatClampNeg = es_n lf t := nI_clamp (by omega)
  have er : (nI (es_n rt t)).toNatClampNeg = es_n rt t := nI_clamp (by omega)
  have stay : (¬ so t = 0 → ey_K k (es_n lf t) → ey_K k (es_n rt t) → False) → post (nI T, ch, so, lf, rt, hY, k) := fun z => h k ch ey_E_rf hk ⟨f1, f2, fun a b c => (z a b c).elim⟩
  unfold wY_apply_76
  refine ⟨vp_in_nI (by omega) (by decide), br_c (fun s => stay (fun s0 _ _ => ?_)) (fun s => ⟨vp_in_nI (by omega) (by decide), br_c (fun ka => stay (fun _ a _ => ?_)) (fun ka => ⟨vp_in_nI (by omega) (by decide), br_c (fun kb => stay (fun _ _ a => ?_)) (fun kb => ?_)⟩)⟩)⟩
  · rw [et] at s
    rcases W.2.2.2.2.2 t (es_so8 W s0) ht with q | q <;> rw [q] at s <;> exact absurd s (by decide)
  · rw [el] at ka; exact a.2 ka
  · rw [er] at kb; exact a.2 kb
  · rw [el] at ka
    rw [er] at kb
    rw [et] at s
    have s0 : ¬ so t = 0 := fun z => s (by rw [z]; decide)
    have qa : ey_K k (es_n lf t) := ⟨by omega, ka⟩
    have qb : ey_K k (es_n rt t) := ⟨by omega, kb⟩
    refine yw_learn (y := t) rfl (by omega) (fun k' ch' E hs => ?_)
    refine h k' ch' E (fun y hy => ?_) ⟨fun _ _ => ⟨E.1 _ qa, E.1 _ qb⟩, fun _ _ _ => E.1 _ qb, fun _ _ _ => (hs t).mpr (Or.inr rfl)⟩
    rcases (hs y).mp hy with q | q
    · exact hk y q
    · rw [q]; exact (hC t ht).2.2 s0 (hk _ qa) (hk _ qb)
theorem yw_43 {post : SY → Prop} {ch : Int32} {k : Nat → Int32} {t : Nat} (W : es_W T so lf rt) (hC : es_Cl T so lf rt P) (ht : t < T) (hk : ∀ y, ey_K k y → P y)
    (f1 : so t = 1 → ey_K k t → ey_K k (es_n lf t) ∧ ey_K k (es_n rt t))
    (h : ∀ k' ch', ey_E k ch k' ch' → (∀ y, ey_K k' y → P y) → es_Ct (so t) (es_n lf t) (es_n rt t) t (ey_K k') → post (nI T, ch', so, lf, rt, hY, k')) : wY_apply_43 post (nI t) (nI (es_n lf t)) (nI (es_n rt t)) (nI T) ch so lf rt hY k := by
  have hT := W.2.1
  have hl := (W.2.2.1 t).2
  have hr := (W.2.2.2.1 t).2
  have et : (nI t).toNatClampNeg = t := nI_clamp (by omega)
  have el : (nI (es_n lf t)).toNatClampNeg = es_n lf t := nI_clamp (by omega)
  have hi : vp_in (nI t) 28 := vp_in_nI (by omega) (by decide)
  unfold wY_apply_43
  refine ⟨hi, br_c (fun s => ⟨hi, br_c (fun kt => ?_) (fun kt => ⟨vp_in_nI (by omega) (by decide), br_c (fun ka => ?_) (fun ka => ?_)⟩)⟩) (fun s => ?_)⟩
  · rw [et] at kt
    exact yw_76 W hC ht hk f1 (fun _ a _ => absurd kt a.2) h
  · rw [el] at ka
    exact yw_76 W hC ht hk f1 (fun _ _ a => absurd ka a.2) h
  · rw [et] at s kt
    rw [el] at ka
    have qt : ey_K k t := ⟨by omega, kt⟩
    have qa : ey_K k (es_n lf t) := ⟨by omega, ka⟩
    refine yw_learn (y := es_n rt t) rfl (by omega) (fun k1 ch1 E1 hs => ?_)
    refine yw_76 W hC ht (fun y hy => ?_) (fun s1 => by rw [s] at s1; exact absurd s1 (by decide)) (fun _ _ _ => (hs _).mpr (Or.inr rfl)) (fun k' ch' E' a b => h k' ch' (ey_E_tr E1 E') a b)
    rcases (hs y).mp hy with q | q
    · exact hk y q
    · rw [q]; exact (hC t ht).2.1 s (hk _ qt) (hk _ qa)
  · rw [et] at s
    exact yw_76 W hC ht hk f1 (fun a => absurd a s) h
theorem yw_apply {post : SY → Prop} {ch : Int32} {k : Nat → Int32} {t : Nat} (W : es_W T so lf rt) (hC : es_Cl T so lf rt P) (ht : t < T) (hk : ∀ y, ey_K k y → P y)
    (h : ∀ k' ch', ey_E k ch k' ch' → (∀ y, ey_K k' y → P y) → es_Ct (so t) (es_n lf t) (es_n rt t) t (ey_K k') → post (nI T, ch', so, lf, rt, hY, k')) : wpY_apply post (nI T, ch, so, lf, rt, hY, k) (nI t) := by
  have hT := W.2.1
  have hl := (W.2.2.1 t).2
  have hr := (W.2.2.2.1 t).2
  have et : (nI t).toNatClampNeg = t := nI_clamp (by omega)
  have hi : vp_in (nI t) 28 := vp_in_nI (by omega) (by decide)
  have el : lf (nI t).toNatClampNeg = nI (es_n lf t) := by rw [et]; exact (W.2.2.1 t).1
  have er : rt (nI t).toNatClampNeg = nI (es_n rt t) := by rw [et]; exact (W.2.2.2.1 t).1
  unfold wpY_apply
  refine ⟨hi, nm_r el ⟨hi, nm_r er ⟨hi, br_c (fun s => ⟨hi, br_c (fun kt => ?_) (fun kt => ?_)⟩) (fun s => ?_)⟩⟩⟩
  · rw [et] at kt
    exact yw_43 W hC ht hk (fun _ a => absurd kt a.2) h
  · rw [et] at s kt
    have qt : ey_K k t := ⟨by omega, kt⟩
    have hp := (hC t ht).1 s (hk _ qt)
    refine yw_learn (y := es_n lf t) rfl (by omega) (fun k1 ch1 E1 hs1 => ?_)
    refine yw_learn (y := es_n rt t) rfl (by omega) (fun k2 ch2 E2 hs2 => ?_)
    refine yw_43 W hC ht (fun y hy => ?_) (fun _ _ => ⟨(hs2 _).mpr (Or.inl ((hs1 _).mpr (Or.inr rfl))), (hs2 _).mpr (Or.inr rfl)⟩) (fun k' ch' E' a b => h k' ch' (ey_E_tr E1 (ey_E_tr E2 E')) a b)
    rcases (hs2 y).mp hy with q | q
    · rcases (hs1 y).mp q with q | q
      · exact hk y q
      · rw [q]; exact hp.1
    · rw [q]; exact hp.2
  · rw [et] at s
    exact yw_43 W hC ht hk (fun a => absurd a s) h
theorem yw_97 {post : SY → Prop} {J : Int32 → Int32 → Int32 → (Nat → Int32) → (Nat → Int32) → (Nat → Int32) → (Nat → Int32) → (Nat → Int32) → Prop} {x4 : Int32} {k0 : Nat → Int32} (W : es_W T so lf rt) (hC : es_Cl T so lf rt P)
    (h : ∀ k' ch', ey_E k0 0 k' ch' → (∀ y, ey_K k' y → P y) → (ch' = 0 → es_Cl T so lf rt (ey_K k')) → J (x4 + 1) (nI T) ch' so lf rt hY k') :
    ∀ n i k ch, i ≤ T → T - i < n → ey_E k0 0 k ch → (∀ y, ey_K k y → P y) → (ch = 0 → ∀ t, t < i → es_Ct (so t) (es_n lf t) (es_n rt t) t (ey_K k)) → wY_work_97 post J x4 n (nI i) (nI T) ch so lf rt hY k := by
  have hT := W.2.1
  intro n
  induction n with
  | zero => intro i k ch _ hn; omega
  | succ n ih =>
    intro i k ch hi hn E hk D
    refine pk_le T i (fun z => nm_e (h k ch E hk (fun c t ht => D c t (by omega)))) (fun z => ?_)
    refine yw_apply W hC z hk (fun k' ch' E' hk' ct => ?_)
    refine nm_r (nI_1 i) (ih (i + 1) k' ch' (by omega) (by omega) (ey_E_tr E E') hk' (fun c t ht => ?_))
    by_cases q : t = i
    · rw [q]; exact ct
    · rcases E'.2 with ⟨e, s⟩ | ⟨e, s⟩
      · exact es_Ct_congr (fun y => ⟨E'.1 y, s y⟩) (D (e.symm.trans c) t (by omega))
      · rw [e] at c; exact absurd c (by decide)
theorem yw_75 {post : SY → Prop} {kI : Nat → Int32} (W : es_W T so lf rt) (hC : es_Cl T so lf rt P)
    (h : ∀ k' ch', (∀ y, ey_K kI y → ey_K k' y) → (∀ y, ey_K k' y → P y) → es_Cl T so lf rt (ey_K k') → post (nI T, ch', so, lf, rt, hY, k')) :
    ∀ n r k ch, r ≤ 30 → 30 - r < n → (∀ y, ey_K kI y → ey_K k y) → (∀ y, ey_K k y → P y) → (ch = 0 → es_Cl T so lf rt (ey_K k)) → (¬ ch = 0 → r ≤ es_c (ey_b k) 28) → wY_work_75 post n (nI r) (nI T) ch so lf rt hY k := by
  have hT := W.2.1
  intro n
  induction n with
  | zero => intro r k ch _ hn; omega
  | succ n ih =>
    intro r k ch hr hn hI hk c0 c1
    have hle := es_c_le (ey_b k) 28
    refine pk_le 30 r (fun z => ?_) (fun z => br_c (fun e => h k ch hI hk (c0 e)) (fun e => ⟨T + 1, ?_⟩))
    · by_cases e : ch = 0
      · exact h k ch hI hk (c0 e)
      · have := c1 e; omega
    · refine yw_97 (k0 := k) W hC (fun k' ch' E hk' cl => ?_) (T + 1) 0 k 0 (by omega) (by omega) ey_E_rf hk (fun _ t ht => by omega)
      rw [nI_1]
      refine ih (r + 1) k' ch' (by omega) (by omega) (fun y q => E.1 y (hI y q)) hk' cl (fun e' => ?_)
      rcases E.2 with ⟨q, _⟩ | ⟨_, q⟩
      · exact absurd q e'
      · have := c1 e; omega
theorem yw_32 {post : SY → Prop} {J : Int32 → (Nat → Int32) → (Nat → Int32) → (Nat → Int32) → (Nat → Int32) → (Nat → Int32) → Prop} {f ch x1 x2 x3 : Int32} {k : Nat → Int32} {i : Nat} (hi : i < 28)
    (b1 : (nI i = x1 ∨ (i < 8 ∧ bt x2 i = true)) → J (nI (i + 1)) so lf rt hY (upd k i 1)) (b0 : ¬ (nI i = x1 ∨ (i < 8 ∧ bt x2 i = true)) → J (nI (i + 1)) so lf rt hY (upd k i 0)) : wY_work_32 post J x1 x2 x3 (nI i) (nI i) f ch so lf rt hY k := by
  have ei : (nI i).toNatClampNeg = i := nI_clamp (by omega)
  have hin : vp_in (nI i) 28 := vp_in_nI hi (by decide)
  have e1 : upd k (nI i).toNatClampNeg (vp_nar .boolean 1) = upd k i 1 := by rw [ei]; rfl
  have e0 : upd k (nI i).toNatClampNeg (vp_nar .boolean 0) = upd k i 0 := by rw [ei]; rfl
  unfold wY_work_32
  refine br_c (fun e => ⟨hin, nm_r e1 (nm_r (nI_1 i) (b1 (Or.inl e)))⟩) (fun e => pk_le 8 i (fun z => ⟨hin, nm_r e0 (nm_r (nI_1 i) (b0 (fun q => ?_)))⟩) (fun z => br_c (fun b => ⟨hin, nm_r e1 (nm_r (nI_1 i) (b1 (Or.inr ⟨z, (es_stst (by omega) x2).mp b⟩)))⟩) (fun b => ⟨hin, nm_r e0 (nm_r (nI_1 i) (b0 (fun q => ?_)))⟩)))
  · rcases q with q | q
    · exact e q
    · omega
  · rcases q with q | q
    · exact e q
    · exact b ((es_stst (by omega) x2).mpr q.2)
theorem yw_3 {post : SY → Prop} {ch x1 x2 x3 : Int32} (W : es_W T so lf rt)
    (h : ∀ k' ch', (∀ y, y < 28 → (¬ k' y = 0 ↔ es_L T so lf rt (fun z => z < 28 ∧ ey_In hY x1 x2 x3 z) y)) → post (nI T, ch', so, lf, rt, hY, k')) :
    ∀ n i k, i ≤ 28 → 28 - i < n → (∀ y, y < i → (¬ k y = 0 ↔ ey_In hY x1 x2 x3 y)) → wY_work_3 post x1 x2 x3 (nI T) ch n (nI i) so lf rt hY k := by
  have hT := W.2.1
  intro n
  induction n with
  | zero => intro i k _ hn; omega
  | succ n ih =>
    intro i k hi hn D
    refine pk_le 28 i (fun z => ⟨31, ?_⟩) (fun z => ⟨vp_in_nI z (by decide), ?_⟩)
    · refine yw_75 (P := es_L T so lf rt (fun z => z < 28 ∧ ey_In hY x1 x2 x3 z)) (kI := k) W es_L_cl (fun k' ch' a b c => ?_) 31 0 k 1 (by omega) (by omega) (fun _ q => q) (fun y q => es_L_in ⟨q.1, (D y (by have := q.1; omega)).mp q.2⟩) (fun q => absurd q (by decide)) (fun _ => by omega)
      refine h k' ch' (fun y hy => ⟨fun q => b y ⟨hy, q⟩, fun q => ?_⟩)
      exact (es_L_le c (fun w hw => a w ⟨hw.1, (D w (by have := hw.1; omega)).mpr hw.2⟩) q).2
    · have ei : (nI i).toNatClampNeg = i := nI_clamp (by omega)
      have step : ∀ v : Int32, (¬ v = 0 ↔ ey_In hY x1 x2 x3 i) → wY_work_3 post x1 x2 x3 (nI T) ch n (nI (i + 1)) so lf rt hY (upd k i v) := fun v hv => by
        refine ih (i + 1) _ (by omega) (by omega) (fun y hy => ?_)
        by_cases q : y = i
        · rw [q, pk_us]; exact hv
        · rw [pk_un q]; exact D y (by omega)
      have s1 : ey_In hY x1 x2 x3 i → wY_work_3 post x1 x2 x3 (nI T) ch n (nI (i + 1)) so lf rt hY (upd k i 1) := fun q => step 1 ⟨fun _ => q, fun _ => by decide⟩
      have s0 : ¬ ey_In hY x1 x2 x3 i → wY_work_3 post x1 x2 x3 (nI T) ch n (nI (i + 1)) so lf rt hY (upd k i 0) := fun q => step 0 ⟨fun z => absurd rfl z, fun z => absurd z q⟩
      refine br_c (fun b => ?_) (fun b => br_c (fun e => ?_) (fun e => ?_))
      · rw [ei] at b
        exact yw_32 z (fun q => s1 (Or.inr q)) (fun q => s0 (fun w => w.elim (fun w => w.1 b) q))
      · exact yw_32 z (fun q => s1 (Or.inr q)) (fun q => s0 (fun w => w.elim (fun w => w.2 e) q))
      · rw [ei] at b
        exact ⟨vp_in_nI z (by decide), nm_r (e' := upd k i 1) (by rw [ei]; rfl) (nm_r (nI_1 i) (s1 (Or.inl ⟨b, e⟩)))⟩
theorem yw_work {post : SY → Prop} {ch x1 x2 x3 : Int32} {k : Nat → Int32} (W : es_W T so lf rt)
    (h : ∀ k' ch', (∀ y, y < 28 → (¬ k' y = 0 ↔ es_L T so lf rt (fun z => z < 28 ∧ ey_In hY x1 x2 x3 z) y)) → post (nI T, ch', so, lf, rt, hY, k')) : wpY_work post (nI T, ch, so, lf, rt, hY, k) x1 x2 x3 :=
  ⟨29, yw_3 W h 29 0 k (by omega) (by omega) (fun y hy => by omega)⟩
end YW
end
section
/-! ===== sizes ===== -/
theorem es_addb (c : Nat) (b : Bool) : nI c + (if b = true then 1 else 0) = nI (c + if b = true then 1 else 0) := by
  cases b
  · rw [if_neg (by decide), if_neg (by decide)]; exact Int32.add_zero _
  · rw [if_pos rfl, if_pos rfl]; exact nI_1 c
theorem xw_size4 {post : Int32 → Prop} {x : Int32} (h : post (nI (es_c (bt x) 28))) : ∀ n i, i ≤ 28 → 28 - i < n → wX_size_4 post x n (nI (es_c (bt x) i)) (nI i) := by
  intro n
  induction n with
  | zero => intro i _ hn; omega
  | succ n ih =>
    intro i hi hn
    refine pk_le 28 i (fun z => ?_) (fun z => nm_r (e' := nI (es_c (bt x) (i + 1))) ?_ (nm_r (nI_1 i) (ih (i + 1) (by omega) (by omega))))
    · rw [show i = 28 by omega]; exact h
    · rw [es_val (by omega), es_c_s, es_addb]
theorem xw_size {post : Int32 → Prop} {x : Int32} (h : post (nI (es_c (bt x) 28))) : wpX_size post x := ⟨29, xw_size4 h 29 0 (by omega) (by omega)⟩
theorem yw_ones4 {post : Int32 → Prop} {x : Int32} (h : post (nI (es_c (bt x) 8))) : ∀ n i, i ≤ 8 → 8 - i < n → wY_ones_4 post x n (nI (es_c (bt x) i)) (nI i) := by
  intro n
  induction n with
  | zero => intro i _ hn; omega
  | succ n ih =>
    intro i hi hn
    refine pk_le 8 i (fun z => ?_) (fun z => nm_r (e' := nI (es_c (bt x) (i + 1))) ?_ (nm_r (nI_1 i) (ih (i + 1) (by omega) (by omega))))
    · rw [show i = 8 by omega]; exact h
    · rw [es_sval (by omega), es_c_s, es_addb]
theorem yw_ones {post : Int32 → Prop} {x : Int32} (h : post (nI (es_c (bt x) 8))) : wpY_ones post x := ⟨9, yw_ones4 h 9 0 (by omega) (by omega)⟩
theorem yw_count4 {post : Int32 → Prop} {T : Nat} {ch : Int32} {so lf rt hY k : Nat → Int32} (hT : T ≤ 28) (h : post (nI (es_c (ey_b k) T))) : ∀ n i, i ≤ T → T - i < n → wY_count_4 post (nI T) ch so lf rt hY k n (nI (es_c (ey_b k) i)) (nI i) := by
  intro n
  induction n with
  | zero => intro i _ hn; omega
  | succ n ih =>
    intro i hi hn
    refine pk_le T i (fun z => ?_) (fun z => ⟨vp_in_nI (by omega) (by decide), br_c (fun b => ?_) (fun b => ?_)⟩)
    · have e : i = T := by omega
      rw [e]; exact h
    · rw [nI_clamp (by omega)] at b
      have e : es_c (ey_b k) (i + 1) = es_c (ey_b k) i := by
        have q : ¬ ey_b k i = true := fun z => (of_decide_eq_true (p := ¬ k i = 0) z) b
        rw [es_c_s, if_neg q]; rfl
      have := ih (i + 1) (by omega) (by omega)
      rw [e] at this
      exact nm_r (nI_1 i) this
    · rw [nI_clamp (by omega)] at b
      have e : es_c (ey_b k) (i + 1) = es_c (ey_b k) i + 1 := by
        have q : ey_b k i = true := decide_eq_true b
        rw [es_c_s, if_pos q]
      have := ih (i + 1) (by omega) (by omega)
      rw [e] at this
      exact nm_r (nI_1 _) (nm_r (nI_1 i) this)
theorem yw_count {post : Int32 → Prop} {T : Nat} {ch : Int32} {so lf rt hY k : Nat → Int32} (hT : T ≤ 28) (h : post (nI (es_c (ey_b k) T))) : wpY_count post (nI T, ch, so, lf, rt, hY, k) := ⟨T + 1, yw_count4 hT h (T + 1) 0 (by omega) (by omega)⟩
/-! ===== which numbers are terms ===== -/
theorem xw_bad {A B : Prop} {T : Nat} {hd K w : Int32} {so lf rt ui st : Nat → Int32} {x : Int32} (hx : x < 0 ∨ nI T ≤ x) (h : A) : wpX_isTerm (fun r => (r = 0 → A) ∧ (¬ r = 0 → B)) (nI T, hd, K, w, so, lf, rt, ui, st) x := by
  refine br_c (fun _ => br_t rfl h) (fun z => ?_)
  exact br_t (hx.resolve_left z) (br_t rfl h)
theorem xw_ok {A B : Prop} {T : Nat} {hd K w : Int32} {so lf rt ui st : Nat → Int32} {y : Nat} (hT : T ≤ 28) (hy : y < T) (h : B) : wpX_isTerm (fun r => (r = 0 → A) ∧ (¬ r = 0 → B)) (nI T, hd, K, w, so, lf, rt, ui, st) (nI y) :=
  br_f (nI_pos (by omega)) (br_f (nI_ge hy (by omega)) (br_f (by decide) h))
theorem yw_bad {A B : Prop} {T : Nat} {ch : Int32} {so lf rt hY k : Nat → Int32} {x : Int32} (hx : x < 0 ∨ nI T ≤ x) (h : B) : wpY_bad (fun r => (r = 0 → A) ∧ (¬ r = 0 → B)) (nI T, ch, so, lf, rt, hY, k) x := by
  refine br_c (fun _ => br_f (by decide) h) (fun z => ?_)
  exact br_f (Int32.not_lt.mpr (hx.resolve_left z)) (br_f (by decide) h)
theorem yw_ok {A B : Prop} {T : Nat} {ch : Int32} {so lf rt hY k : Nat → Int32} {y : Nat} (hT : T ≤ 28) (hy : y < T) (h : A) : wpY_bad (fun r => (r = 0 → A) ∧ (¬ r = 0 → B)) (nI T, ch, so, lf, rt, hY, k) (nI y) :=
  br_f (nI_pos (by omega)) (br_t (nI_lt hy (by omega)) (br_t rfl h))
theorem es_ix (x : Int32) {T : Nat} (hT : T ≤ 28) : (x < 0 ∨ nI T ≤ x) ∨ ∃ j : Nat, j < T ∧ x = nI j := by
  rcases pk_ix x (n := T) (by omega) with h | h | h
  · exact Or.inl (Or.inl h)
  · exact Or.inl (Or.inr h)
  · exact Or.inr h
/-! ===== the relation ===== -/
def es_R (T : Nat) (hd K : Int32) (so lf rt ui hY : Nat → Int32) : Prop := es_W T so lf rt ∧ es_U T lf rt ui ∧ (∀ j, bt hd j = true → j < T) ∧ (∀ j, bt K j = true ↔ es_L T so lf rt (fun y => bt hd y = true) j) ∧ (∀ j, j < 28 → (¬ hY j = 0 ↔ bt hd j = true))
/-- the same terms on both sides; the component's known set is the least closed set over what was heard; nothing waits; the reference's known and changed are free -/
def i_Rel (_ : Nat) (u : SX) (v : SY) : Prop := ∃ (T : Nat) (hd K : Int32) (so lf rt ui st : Nat → Int32) (ch : Int32) (hY k : Nat → Int32), u = (nI T, hd, K, 0, so, lf, rt, ui, st) ∧ v = (nI T, ch, so, lf, rt, hY, k) ∧ es_R T hd K so lf rt ui hY
theorem es_mkR {n T : Nat} {hd K : Int32} {so lf rt ui st : Nat → Int32} {ch : Int32} {hY k : Nat → Int32} (h : es_R T hd K so lf rt ui hY) : i_Rel n (nI T, hd, K, 0, so, lf, rt, ui, st) (nI T, ch, so, lf, rt, hY, k) := ⟨T, hd, K, so, lf, rt, ui, st, ch, hY, k, rfl, rfl, h⟩
theorem es_el {n : Nat} {Pp : SX → SY → Prop} {u : SX} {v : SY} (I : i_Rel n u v) (h : ∀ (T : Nat) (hd K : Int32) (so lf rt ui st : Nat → Int32) (ch : Int32) (hY k : Nat → Int32), es_R T hd K so lf rt ui hY → Pp (nI T, hd, K, 0, so, lf, rt, ui, st) (nI T, ch, so, lf, rt, hY, k)) : Pp u v := by
  obtain ⟨T, hd, K, so, lf, rt, ui, st, ch, hY, k, e1, e2, r⟩ := I
  rw [e1, e2]
  exact h T hd K so lf rt ui st ch hY k r
section RL
variable {T : Nat} {hd K : Int32} {so lf rt ui hY : Nat → Int32}
theorem es_R_lt (R : es_R T hd K so lf rt ui hY) {j : Nat} (h : bt K j = true) : j < T := es_L_lt R.1 R.2.2.1 ((R.2.2.2.1 j).mp h)
theorem es_R_cl (R : es_R T hd K so lf rt ui hY) : es_Cl T so lf rt (fun y => bt K y = true) := by
  have e : (fun y => bt K y = true) = es_L T so lf rt (fun y => bt hd y = true) := funext (fun y => propext (R.2.2.2.1 y))
  rw [e]
  exact es_L_cl
theorem es_R_hd (R : es_R T hd K so lf rt ui hY) {j : Nat} (h : bt hd j = true) : bt K j = true := (R.2.2.2.1 j).mpr (es_L_in h)
end RL
theorem i_up {k : Nat} {u : SX} {v : SY} (h : i_Rel k u v) : i_Rel (k + 3) u v := h
theorem i_vc0 : wpX_init (fun u => wpY_init (fun v => i_Rel 0 u v)) := by
  unfold wpX_init wpY_init
  refine es_mkR (T := 8) ⟨⟨by omega, by omega, fun t => ⟨rfl, ?_⟩, fun t => ⟨rfl, ?_⟩, fun t _ => rfl, fun t a b => by omega⟩, fun t a b => by omega, fun j h => ?_, fun j => ⟨fun h => ?_, fun h => ?_⟩, fun j _ => ⟨fun h => absurd rfl h, fun h => ?_⟩⟩
  · exact (by decide : (0 : Int32).toNatClampNeg < 8)
  · exact (by decide : (0 : Int32).toNatClampNeg < 8)
  · rw [b_0] at h; exact absurd h (by decide)
  · rw [b_0] at h; exact absurd h (by decide)
  · exact (es_L_le (P := fun _ => False) (fun t _ => ⟨fun _ z => z.elim, fun _ z => z.elim, fun _ z => z.elim⟩) (fun y z => by rw [b_0] at z; exact absurd z (by decide)) h).elim
  · rw [b_0] at h; exact absurd h (by decide)
end
section
/-! ===== a new term ===== -/
theorem es_upo (f : Nat → Int32) (a : Nat) (m : Int32) (x i : Nat) : bt (upd f a (f a ||| m) x) i = (bt (f x) i || (decide (x = a) && bt m i)) := by
  by_cases e : x = a
  · subst e
    rw [pk_us, b_or, decide_eq_true rfl, Bool.true_and]
  · rw [pk_un e, decide_eq_false e, Bool.false_and, Bool.or_false]
theorem es_nu {f : Nat → Int32} {T a : Nat} (ha : a < 2 ^ 31) : es_n (upd f T (nI a)) T = a := by
  show (upd f T (nI a) T).toNatClampNeg = a
  rw [pk_us, nI_clamp ha]
theorem es_no {f : Nat → Int32} {T t : Nat} {x : Int32} (h : t ≠ T) : es_n (upd f T x) t = es_n f t := by
  show (upd f T x t).toNatClampNeg = _
  rw [pk_un h]; rfl
theorem es_newW {T : Nat} {so lf rt : Nat → Int32} {s : Int32} {a b : Nat} (W : es_W T so lf rt) (hT : T < 28) (ha : a < T) (hb : b < T) (hs : s = 1 ∨ s = 2) : es_W (T + 1) (upd so T s) (upd lf T (nI a)) (upd rt T (nI b)) := by
  have h8 := W.1
  refine ⟨by omega, by omega, fun t => ?_, fun t => ?_, fun t ht => ?_, fun t h ht => ?_⟩
  · by_cases e : t = T
    · subst e
      rw [es_nu (by omega), pk_us]
      exact ⟨rfl, by omega⟩
    · rw [es_no e, pk_un e]
      exact ⟨(W.2.2.1 t).1, by have := (W.2.2.1 t).2; omega⟩
  · by_cases e : t = T
    · subst e
      rw [es_nu (by omega), pk_us]
      exact ⟨rfl, by omega⟩
    · rw [es_no e, pk_un e]
      exact ⟨(W.2.2.2.1 t).1, by have := (W.2.2.2.1 t).2; omega⟩
  · rw [pk_un (by omega)]
    exact W.2.2.2.2.1 t ht
  · by_cases e : t = T
    · rw [e, pk_us]; exact hs
    · rw [pk_un e]
      exact W.2.2.2.2.2 t h (by omega)
theorem es_newU {T : Nat} {so lf rt ui : Nat → Int32} {a b : Nat} (W : es_W T so lf rt) (U : es_U T lf rt ui) (hT : T < 28) (ha : a < T) (hb : b < T) :
    es_U (T + 1) (upd lf T (nI a)) (upd rt T (nI b)) (upd (upd ui a (ui a ||| ((1 : Int32) <<< (nI T &&& 31)))) b (upd ui a (ui a ||| ((1 : Int32) <<< (nI T &&& 31))) b ||| ((1 : Int32) <<< (nI T &&& 31)))) := by
  intro t h ht
  rw [es_upo, es_upo, es_upo, es_upo, es_bit (by omega)]
  by_cases e : t = T
  · subst e
    rw [es_nu (by omega), es_nu (by omega), decide_eq_true rfl, decide_eq_true rfl, decide_eq_true rfl]
    simp
  · rw [es_no e, es_no e, (U t h (by omega)).1, (U t h (by omega)).2]
    simp
theorem es_newCl {T : Nat} {so lf rt : Nat → Int32} {s : Int32} {a b : Nat} {P : Nat → Prop} (hT : T < 28) (ha : a < T) (hb : b < T) : es_Cl (T + 1) (upd so T s) (upd lf T (nI a)) (upd rt T (nI b)) P ↔ es_Cl T so lf rt P ∧ es_Ct s a b T P := by
  constructor
  · intro h
    constructor
    · intro t ht
      have q := h t (by omega)
      rw [es_no (by omega), es_no (by omega), pk_un (by omega)] at q
      exact q
    · have q := h T (by omega)
      rw [es_nu (by omega), es_nu (by omega), pk_us] at q
      exact q
  · intro h t ht
    by_cases e : t = T
    · subst e
      rw [es_nu (by omega), es_nu (by omega), pk_us]
      exact h.2
    · rw [es_no e, es_no e, pk_un e]
      exact h.1 t (by omega)
theorem es_newL {T : Nat} {so lf rt : Nat → Int32} {s : Int32} {a b : Nat} {H : Nat → Prop} {x : Nat} (hT : T < 28) (ha : a < T) (hb : b < T) (h : es_L T so lf rt H x) : es_L (T + 1) (upd so T s) (upd lf T (nI a)) (upd rt T (nI b)) H x :=
  fun P hP hH => h P ((es_newCl hT ha hb).mp hP).1 hH
/-- the first term of this form is found by both, or by none -/
theorem es_find {T : Nat} {hd K : Int32} {so lf rt ui st : Nat → Int32} {ch : Int32} {hY k : Nat → Int32} (W : es_W T so lf rt) (U : es_U T lf rt ui) {s x4 : Int32} {a b : Nat} (ha : a < T) (hb : b < T) (h4 : ∀ t, bt x4 t = (bt (ui a) t && bt (ui b) t)) : ∀ d j, j + d = T → 8 ≤ j →
    (∃ t, t < T ∧ (∀ post : Int32 → SX → Prop, post (nI t) (nI T, hd, K, 0, so, lf, rt, ui, st) → wX_termOf_19 post s (nI a) (nI b) x4 (nI T) hd K 0 so lf rt ui st (d + 1) (nI j)) ∧ (∀ post : Int32 → SY → Prop, post (nI t) (nI T, ch, so, lf, rt, hY, k) → wY_make_22 post s (nI a) (nI b) (nI T) ch so lf rt hY k (d + 1) (nI j))) ∨
    ((∀ post : Int32 → SX → Prop, wX_termOf_19 post s (nI a) (nI b) x4 (nI T) hd K 0 so lf rt ui st 1 (nI T) → wX_termOf_19 post s (nI a) (nI b) x4 (nI T) hd K 0 so lf rt ui st (d + 1) (nI j)) ∧ (∀ post : Int32 → SY → Prop, wY_make_22 post s (nI a) (nI b) (nI T) ch so lf rt hY k 1 (nI T) → wY_make_22 post s (nI a) (nI b) (nI T) ch so lf rt hY k (d + 1) (nI j))) := by
  have hT := W.2.1
  intro d
  induction d with
  | zero =>
    intro j hj h8
    rw [show j = T by omega]
    exact Or.inr ⟨fun _ q => q, fun _ q => q⟩
  | succ d ih =>
    intro j hj h8
    have hn : ¬ nI T ≤ nI j := nI_ge (by omega) (by omega)
    have hi : vp_in (nI j) 28 := vp_in_nI (by omega) (by decide)
    have ej : (nI j).toNatClampNeg = j := nI_clamp (by omega)
    by_cases m : so (nI j).toNatClampNeg = s ∧ lf (nI j).toNatClampNeg = nI a ∧ rt (nI j).toNatClampNeg = nI b
    · refine Or.inl ⟨j, by omega, fun post hp => ?_, fun post hp => ?_⟩
      · have b1 : ¬ (((x4.toUInt32 >>> ((nI j).toUInt32 &&& Int32.toUInt32 31)).toInt32) &&& 1) = 0 := by
          rw [es_tst (by omega), h4]
          have u := U j h8 (by omega)
          have e1 : es_n lf j = a := by
            show (lf j).toNatClampNeg = a
            have := m.2.1
            rw [ej] at this
            rw [this, nI_clamp (by omega)]
          have e2 : es_n rt j = b := by
            show (rt j).toNatClampNeg = b
            have := m.2.2
            rw [ej] at this
            rw [this, nI_clamp (by omega)]
          rw [e1, e2] at u
          rw [u.1, u.2]
          decide
        exact br_f hn (br_f b1 ⟨hi, br_t m.1 ⟨hi, br_t m.2.1 ⟨hi, br_t m.2.2 hp⟩⟩⟩)
      · exact br_f hn ⟨hi, br_t m.1 ⟨hi, br_t m.2.1 ⟨hi, br_t m.2.2 hp⟩⟩⟩
    · have gx : ∀ post : Int32 → SX → Prop, wX_termOf_19 post s (nI a) (nI b) x4 (nI T) hd K 0 so lf rt ui st (d + 1) (nI (j + 1)) → wX_termOf_19 post s (nI a) (nI b) x4 (nI T) hd K 0 so lf rt ui st (d + 1 + 1) (nI j) := fun post h =>
        br_f hn (br_c (fun _ => nm_r (nI_1 j) h) (fun _ => ⟨hi, br_c (fun m1 => ⟨hi, br_c (fun m2 => ⟨hi, br_c (fun m3 => absurd ⟨m1, m2, m3⟩ m) (fun _ => nm_r (nI_1 j) h)⟩) (fun _ => nm_r (nI_1 j) h)⟩) (fun _ => nm_r (nI_1 j) h)⟩))
      have gy : ∀ post : Int32 → SY → Prop, wY_make_22 post s (nI a) (nI b) (nI T) ch so lf rt hY k (d + 1) (nI (j + 1)) → wY_make_22 post s (nI a) (nI b) (nI T) ch so lf rt hY k (d + 1 + 1) (nI j) := fun post h =>
        br_f hn ⟨hi, br_c (fun m1 => ⟨hi, br_c (fun m2 => ⟨hi, br_c (fun m3 => absurd ⟨m1, m2, m3⟩ m) (fun _ => nm_r (nI_1 j) h)⟩) (fun _ => nm_r (nI_1 j) h)⟩) (fun _ => nm_r (nI_1 j) h)⟩
      rcases ih (j + 1) (by omega) (by omega) with ⟨t, ht, hX, hY'⟩ | ⟨hX, hY'⟩
      · exact Or.inl ⟨t, ht, fun post hp => gx post (hX post hp), fun post hp => gy post (hY' post hp)⟩
      · exact Or.inr ⟨fun post hp => gx post (hX post hp), fun post hp => gy post (hY' post hp)⟩
/-- the component's new term -/
theorem es_newX {n T : Nat} {hd K : Int32} {so lf rt ui st : Nat → Int32} {ch : Int32} {hY k : Nat → Int32} (R : es_R T hd K so lf rt ui hY) {s x4 : Int32} {a b : Nat} (hT : T < 28) (ha : a < T) (hb : b < T) (hs : s = 1 ∨ s = 2) {post : Int32 → SX → Prop}
    (h : ∀ K' ui' st', i_Rel n (nI (T + 1), hd, K', 0, upd so T s, upd lf T (nI a), upd rt T (nI b), ui', st') (nI (T + 1), ch, upd so T s, upd lf T (nI a), upd rt T (nI b), hY, k) → post (nI T) (nI (T + 1), hd, K', 0, upd so T s, upd lf T (nI a), upd rt T (nI b), ui', st')) :
    wX_termOf_19 post s (nI a) (nI b) x4 (nI T) hd K 0 so lf rt ui st 1 (nI T) := by
  have W' := es_newW (s := s) R.1 hT ha hb hs
  have U' := es_newU R.1 R.2.1 hT ha hb
  have eT : (nI T).toNatClampNeg = T := nI_clamp (by omega)
  have ea : (nI a).toNatClampNeg = a := nI_clamp (by omega)
  have eb : (nI b).toNatClampNeg = b := nI_clamp (by omega)
  have hsn : ¬ s = 0 := by rcases hs with q | q <;> rw [q] <;> decide
  have iT : vp_in (nI T) 28 := vp_in_nI hT (by decide)
  have ia : vp_in (nI a) 28 := vp_in_nI (by omega) (by decide)
  have ib : vp_in (nI b) 28 := vp_in_nI (by omega) (by decide)
  have kT : ¬ bt K T = true := fun q => by have := es_R_lt R q; omega
  have hKL : ∀ y, bt K y = true → es_L (T + 1) (upd so T s) (upd lf T (nI a)) (upd rt T (nI b)) (fun y => bt hd y = true) y := fun y q => es_newL hT ha hb ((R.2.2.2.1 y).mp q)
  have hdl : ∀ y, bt hd y = true → y < T + 1 := fun y q => by have := R.2.2.1 y q; omega
  generalize hui : upd (upd ui a (ui a ||| ((1 : Int32) <<< (nI T &&& 31)))) b (upd ui a (ui a ||| ((1 : Int32) <<< (nI T &&& 31))) b ||| ((1 : Int32) <<< (nI T &&& 31))) = ui' at U'
  have stay : ¬ (bt K a = true ∧ bt K b = true) → post (nI T) (nI (T + 1), hd, K, 0, upd so T s, upd lf T (nI a), upd rt T (nI b), ui', st) := fun hn => by
    refine h K ui' st (es_mkR ⟨W', U', hdl, fun y => ?_, R.2.2.2.2⟩)
    exact es_L_eq (P := fun y => bt K y = true) ((es_newCl hT ha hb).mpr ⟨es_R_cl R, fun _ q => absurd q kT, fun _ q => absurd q kT, fun _ q1 q2 => absurd ⟨q1, q2⟩ hn⟩) (fun z q => es_R_hd R q) hKL y
  refine br_t (Int32.le_refl _) (br_t (nI_lt (b := 28) hT (by decide)) (nm_r (nI_1 T) ⟨iT, nm_r (e' := upd so T s) (by rw [eT]) ⟨iT, nm_r (e' := upd lf T (nI a)) (by rw [eT]) ⟨iT, nm_r (e' := upd rt T (nI b)) (by rw [eT]) ⟨ia, ia, nm_r (e' := upd ui a (ui a ||| ((1 : Int32) <<< (nI T &&& 31)))) (by rw [ea]) ⟨ib, ib, nm_r (e' := ui') (by rw [eb]; exact hui) ?_⟩⟩⟩⟩⟩))
  refine xw_kn a rfl (by omega) (fun k1 => ?_) (fun k1 => stay (fun q => by rw [k1] at q; exact absurd q.1 (by decide)))
  refine xw_kn b rfl (by omega) (fun k2 => ?_) (fun k2 => stay (fun q => by rw [k2] at q; exact absurd q.2 (by decide)))
  have hPT : es_L (T + 1) (upd so T s) (upd lf T (nI a)) (upd rt T (nI b)) (fun y => bt hd y = true) T := ((es_newCl hT ha hb).mp es_L_cl).2.2.2 hsn (hKL a k1) (hKL b k2)
  refine xw_learn (T := T + 1) (P := es_L (T + 1) (upd so T s) (upd lf T (nI a)) (upd rt T (nI b)) (fun y => bt hd y = true)) (c := es_c (bt K) 28) (w := 0) (y := T) rfl (by omega) (fun y => es_L_lt W' hdl) ⟨hKL, by omega, fun i hi => by omega⟩ hPT (fun K1 w1 st1 I1 E1 q1 => ?_)
  have S1 : es_SC (T + 1) (upd so T s) (upd lf T (nI a)) (upd rt T (nI b)) (fun y => bt K1 y = true) (es_Q w1 st1) := by
    have hcl := es_R_cl R
    have qT : es_Q w1 st1 T := (E1.2.1 T q1).resolve_left kT
    have S0 : es_SC T so lf rt (fun y => bt K1 y = true) (es_Q w1 st1) := es_SC_ext (es_SC_of hcl (Q := es_Q 0 st)) E1.1 E1.2.1 E1.2.2
    intro t ht
    by_cases e : t = T
    · subst e
      exact ⟨fun _ _ q => absurd qT q, fun _ _ _ q => absurd qT q, fun _ _ _ _ _ => q1⟩
    · have q := S0 t (by omega)
      rw [es_no e, es_no e, pk_un e]
      exact q
  refine xw_spread W' U' es_L_cl (fun y => es_L_lt W' hdl) I1 S1 (fun K' st' g1 g2 g3 => ?_)
  exact h K' ui' st' (es_mkR ⟨W', U', hdl, fun y => es_L_eq g2 (fun z q => g3 z (E1.1 z (es_R_hd R q))) g1 y, R.2.2.2.2⟩)
/-- both sides' search and store -/
theorem es_make {n T : Nat} {hd K : Int32} {so lf rt ui st : Nat → Int32} {ch : Int32} {hY k : Nat → Int32} (R : es_R T hd K so lf rt ui hY) {s : Int32} {a b : Nat} (ha : a < T) (hb : b < T) (hs : s = 1 ∨ s = 2) :
    ∃ (r : Int32) (T' : Nat) (so' lf' rt' : Nat → Int32), (∀ post : Int32 → SX → Prop, (∀ K' ui' st', i_Rel n (nI T', hd, K', 0, so', lf', rt', ui', st') (nI T', ch, so', lf', rt', hY, k) → post r (nI T', hd, K', 0, so', lf', rt', ui', st')) → wpX_termOf post (nI T, hd, K, 0, so, lf, rt, ui, st) s (nI a) (nI b)) ∧ (∀ post : Int32 → SY → Prop, post r (nI T', ch, so', lf', rt', hY, k) → ∃ n22, wY_make_22 post s (nI a) (nI b) (nI T) ch so lf rt hY k n22 8) := by
  have W := R.1
  have hT := W.2.1
  have h8 := W.1
  have ia : vp_in (nI a) 28 := vp_in_nI (by omega) (by decide)
  have ib : vp_in (nI b) 28 := vp_in_nI (by omega) (by decide)
  have h4 : ∀ t, bt (ui (nI a).toNatClampNeg &&& ui (nI b).toNatClampNeg) t = (bt (ui a) t && bt (ui b) t) := fun t => by
    rw [b_and, nI_clamp (by omega), nI_clamp (by omega)]
  rcases es_find (hd := hd) (K := K) (st := st) (ch := ch) (hY := hY) (k := k) (s := s) W R.2.1 ha hb h4 (T - 8) 8 (by omega) (by omega) with ⟨t, ht, hX, hY'⟩ | ⟨hX, hY'⟩
  · exact ⟨nI t, T, so, lf, rt, fun post hp => ⟨ia, ib, nm_e ⟨_, hX post (hp K ui st (es_mkR R))⟩⟩, fun post hp => ⟨_, hY' post hp⟩⟩
  · by_cases e : T = 28
    · refine ⟨-1, T, so, lf, rt, fun post hp => ⟨ia, ib, nm_e ⟨_, hX post ?_⟩⟩, fun post hp => ⟨_, hY' post ?_⟩⟩
      · exact br_t (Int32.le_refl _) (br_f (by rw [e]; decide) (hp K ui st (es_mkR R)))
      · exact br_t (Int32.le_refl _) (br_t (by rw [e]; rfl) hp)
    · have hT' : T < 28 := by omega
      have eT : (nI T).toNatClampNeg = T := nI_clamp (by omega)
      have iT : vp_in (nI T) 28 := vp_in_nI hT' (by decide)
      refine ⟨nI T, T + 1, upd so T s, upd lf T (nI a), upd rt T (nI b), fun post hp => ⟨ia, ib, nm_e ⟨_, hX post (es_newX R hT' ha hb hs hp)⟩⟩, fun post hp => ⟨_, hY' post ?_⟩⟩
      refine br_t (Int32.le_refl _) (br_f (fun q => ?_) ⟨iT, nm_r (e' := upd so T s) (by rw [eT]) ⟨iT, nm_r (e' := upd lf T (nI a)) (by rw [eT]) ⟨iT, nm_r (e' := upd rt T (nI b)) (by rw [eT]) (nm_r (nI_1 T) ?_)⟩⟩⟩)
      · exact e ((nI_eq (b := 28) (by omega) (by omega)).mp q)
      · rw [nI_pred]; exact hp
end
section
/-! ===== questions: what each side works out ===== -/
theorem es_nm1 : ∀ z, z < 28 → ¬ nI z = -1 := by decide +kernel
section AS
variable {T : Nat} {hd K : Int32} {so lf rt ui hY : Nat → Int32}
theorem xw_kr {post : Int32 → Prop} {f K w : Int32} {st : Nat → Int32} (y : Nat) (hy : y < 32) (h1 : bt K y = true → post 1) (h0 : bt K y = false → post 0) : wpX_isKnown post (f, hd, K, w, so, lf, rt, ui, st) (nI y) :=
  br_c (fun h => h0 ((es_tst hy K).mp h)) (fun h => h1 (es_nt (fun z => h ((es_tst hy K).mpr z))))
theorem xw_reveals {post : Int32 → SX → Prop} {set : Int32} {g : Nat} {st : Nat → Int32} {E : Nat → Prop} (R : es_R T hd K so lf rt ui hY) (hE : ∀ y, (y < T ∧ bt set y = true) ↔ E y) (hg : g < T)
    (h1 : es_L T so lf rt (fun y => bt hd y = true ∨ E y) g → ∀ st', post 1 (nI T, hd, K, 0, so, lf, rt, ui, st')) (h0 : ¬ es_L T so lf rt (fun y => bt hd y = true ∨ E y) g → ∀ st', post 0 (nI T, hd, K, 0, so, lf, rt, ui, st')) : wpX_reveals post (nI T, hd, K, 0, so, lf, rt, ui, st) set (nI g) := by
  have hT := R.1.2.1
  unfold wpX_reveals
  refine xw_all R.1 R.2.1 (fun y => es_R_lt R) (es_R_cl R) (fun K' st' hK' => ?_)
  have e : bt K' g = true ↔ es_L T so lf rt (fun y => bt hd y = true ∨ E y) g :=
    (hK' g).trans ((es_L_congr (fun y => or_congr_right (hE y)) g).trans (es_L_mix R.2.2.2.1 g))
  exact xw_kr g (by omega) (fun q => ⟨rfl, h1 (e.mp q) st'⟩) (fun q => ⟨rfl, h0 (fun z => by rw [e.mpr z] at q; exact absurd q (by decide)) st'⟩)
theorem xw_rev1 {post : Int32 → SX → Prop} {e g : Nat} {st : Nat → Int32} (R : es_R T hd K so lf rt ui hY) (he : e < T) (hg : g < T)
    (h1 : es_L T so lf rt (fun y => bt hd y = true ∨ y = e) g → ∀ st', post 1 (nI T, hd, K, 0, so, lf, rt, ui, st')) (h0 : ¬ es_L T so lf rt (fun y => bt hd y = true ∨ y = e) g → ∀ st', post 0 (nI T, hd, K, 0, so, lf, rt, ui, st')) : wpX_reveals post (nI T, hd, K, 0, so, lf, rt, ui, st) ((1 : Int32) <<< (nI e &&& 31)) (nI g) := by
  have hT := R.1.2.1
  refine xw_reveals R (fun y => ?_) hg h1 h0
  rw [es_bit (by omega), decide_eq_true_eq]
  exact ⟨fun q => q.2, fun q => ⟨by omega, q⟩⟩
theorem xw_closure {post : Int32 → SX → Prop} {set Kx : Int32} {st : Nat → Int32} {E : Nat → Prop} (R : es_R T hd K so lf rt ui hY) {hx : Int32} (hE : ∀ y, (y < T ∧ bt set y = true) ↔ E y)
    (h : ∀ K' st', (∀ y, bt K' y = true ↔ es_L T so lf rt E y) → post K' (nI T, hx, K', 0, so, lf, rt, ui, st')) : wpX_closureOf post (nI T, hx, Kx, 0, so, lf, rt, ui, st) set := by
  have z0 : ∀ y, ¬ bt 0 y = true := fun y q => by rw [b_0] at q; exact absurd q (by decide)
  unfold wpX_closureOf
  refine xw_all R.1 R.2.1 (fun y q => absurd q (z0 y)) (fun t _ => ⟨fun _ q => absurd q (z0 _), fun _ q => absurd q (z0 _), fun _ q => absurd q (z0 _)⟩) (fun K' st' hK' => ?_)
  refine h K' st' (fun y => (hK' y).trans (es_L_congr (fun w => ⟨fun q => ?_, fun q => Or.inr ((hE w).mpr q)⟩) y))
  rcases q with q | q
  · exact absurd q (z0 w)
  · exact (hE w).mp q
theorem ey_in0 (hl : ∀ j, bt hd j = true → j < T) (hT : T ≤ 28) (h5 : ∀ j, j < 28 → (¬ hY j = 0 ↔ bt hd j = true)) (z : Nat) : (z < 28 ∧ ey_In hY (-1) 0 (-1) z) ↔ bt hd z = true := by
  constructor
  · rintro ⟨h, q | q | q⟩
    · exact (h5 z h).mp q.1
    · exact absurd q (es_nm1 z h)
    · have := q.2; rw [b_0] at this; exact absurd this (by decide)
  · intro q
    have h : z < 28 := by have := hl z q; omega
    exact ⟨h, Or.inl ⟨(h5 z h).mpr q, es_nm1 z h⟩⟩
theorem ey_inE (hl : ∀ j, bt hd j = true → j < T) (hT : T ≤ 28) (h5 : ∀ j, j < 28 → (¬ hY j = 0 ↔ bt hd j = true)) {e : Nat} (he : e < T) (z : Nat) : (z < 28 ∧ ey_In hY (nI e) 0 (-1) z) ↔ (bt hd z = true ∨ z = e) := by
  constructor
  · rintro ⟨h, q | q | q⟩
    · exact Or.inl ((h5 z h).mp q.1)
    · exact Or.inr ((nI_eq (by omega) (by omega)).mp q)
    · have := q.2; rw [b_0] at this; exact absurd this (by decide)
  · intro q
    rcases q with q | q
    · have h : z < 28 := by have := hl z q; omega
      exact ⟨h, Or.inl ⟨(h5 z h).mpr q, es_nm1 z h⟩⟩
    · exact ⟨by omega, Or.inr (Or.inl (by rw [q]))⟩
theorem ey_inS (hl : ∀ j, bt hd j = true → j < T) (hT : T ≤ 28) (h5 : ∀ j, j < 28 → (¬ hY j = 0 ↔ bt hd j = true)) {s : Int32} (z : Nat) : (z < 28 ∧ ey_In hY (-1) s (-1) z) ↔ (bt hd z = true ∨ (z < 8 ∧ bt s z = true)) := by
  constructor
  · rintro ⟨h, q | q | q⟩
    · exact Or.inl ((h5 z h).mp q.1)
    · exact absurd q (es_nm1 z h)
    · exact Or.inr q
  · intro q
    rcases q with q | q
    · have h : z < 28 := by have := hl z q; omega
      exact ⟨h, Or.inl ⟨(h5 z h).mpr q, es_nm1 z h⟩⟩
    · exact ⟨by omega, Or.inr (Or.inr q)⟩
theorem ey_inW (hl : ∀ j, bt hd j = true → j < T) (hT : T ≤ 28) (h5 : ∀ j, j < 28 → (¬ hY j = 0 ↔ bt hd j = true)) {t : Nat} (ht : t < T) (z : Nat) : (z < 28 ∧ ey_In hY (-1) 0 (nI t) z) ↔ (bt hd z = true ∧ ¬ z = t) := by
  constructor
  · rintro ⟨h, q | q | q⟩
    · exact ⟨(h5 z h).mp q.1, fun e => q.2 (by rw [e])⟩
    · exact absurd q (es_nm1 z h)
    · have := q.2; rw [b_0] at this; exact absurd this (by decide)
  · intro q
    have h : z < 28 := by have := hl z q.1; omega
    exact ⟨h, Or.inl ⟨(h5 z h).mpr q.1, fun e => q.2 ((nI_eq (by omega) (by omega)).mp e)⟩⟩
theorem yw_w {post : SY → Prop} {ch x1 x2 x3 : Int32} {k : Nat → Int32} {E : Nat → Prop} (W : es_W T so lf rt) (hE : ∀ z, (z < 28 ∧ ey_In hY x1 x2 x3 z) ↔ E z)
    (h : ∀ k' ch', (∀ y, y < 28 → (¬ k' y = 0 ↔ es_L T so lf rt E y)) → post (nI T, ch', so, lf, rt, hY, k')) : wpY_work post (nI T, ch, so, lf, rt, hY, k) x1 x2 x3 :=
  yw_work W (fun k' ch' q => h k' ch' (fun y hy => (q y hy).trans (es_L_congr hE y)))
theorem yw_known {post : Int32 → SY → Prop} {ch : Int32} {k : Nat → Int32} (R : es_R T hd K so lf rt ui hY)
    (h : ∀ k' ch', post (nI (es_c (bt K) 28)) (nI T, ch', so, lf, rt, hY, k')) : wpY_known post (nI T, ch, so, lf, rt, hY, k) := by
  have hT := R.1.2.1
  unfold wpY_known
  refine yw_w R.1 (ey_in0 R.2.2.1 hT R.2.2.2.2) (fun k' ch' hk => ?_)
  refine yw_count hT ?_
  have e : es_c (ey_b k') T = es_c (bt K) 28 := by
    rw [es_c_tail (p := bt K) hT (fun i a _ => es_nf (fun q => by have := es_R_lt R q; omega))]
    refine es_c_congr (fun i hi => ?_)
    have q := (hk i (by omega)).trans (R.2.2.2.1 i).symm
    cases b : bt K i
    · exact decide_eq_false (fun z => by rw [q.mp z] at b; exact absurd b (by decide))
    · exact decide_eq_true (q.mpr b)
  rw [e]
  exact h k' ch'
theorem yw_knows {post : Int32 → SY → Prop} {ch : Int32} {k : Nat → Int32} {g : Nat} (R : es_R T hd K so lf rt ui hY) (hg : g < T)
    (h1 : bt K g = true → ∀ k' ch', post 1 (nI T, ch', so, lf, rt, hY, k')) (h0 : bt K g = false → ∀ k' ch', post 0 (nI T, ch', so, lf, rt, hY, k')) : wpY_knows post (nI T, ch, so, lf, rt, hY, k) (nI g) := by
  have hT := R.1.2.1
  unfold wpY_knows
  refine yw_ok hT hg (yw_w R.1 (ey_in0 R.2.2.1 hT R.2.2.2.2) (fun k' ch' hk => ?_))
  have q := (hk g (by omega)).trans (R.2.2.2.1 g).symm
  refine ⟨vp_in_nI (by omega) (by decide), br_c (fun b => ?_) (fun b => ?_)⟩
  · rw [nI_clamp (by omega)] at b
    exact h0 (es_nf (fun z => q.mpr z b)) k' ch'
  · rw [nI_clamp (by omega)] at b
    exact h1 (q.mp b) k' ch'
theorem yw_would {post : Int32 → SY → Prop} {ch : Int32} {k : Nat → Int32} {e g : Nat} (R : es_R T hd K so lf rt ui hY) (he : e < T) (hg : g < T)
    (h1 : es_L T so lf rt (fun y => bt hd y = true ∨ y = e) g → ∀ k' ch', post 1 (nI T, ch', so, lf, rt, hY, k')) (h0 : ¬ es_L T so lf rt (fun y => bt hd y = true ∨ y = e) g → ∀ k' ch', post 0 (nI T, ch', so, lf, rt, hY, k')) : wpY_would post (nI T, ch, so, lf, rt, hY, k) (nI e) (nI g) := by
  have hT := R.1.2.1
  unfold wpY_would
  refine yw_ok hT he (yw_ok hT hg (yw_w R.1 (ey_inE R.2.2.1 hT R.2.2.2.2 he) (fun k' ch' hk => ?_)))
  have q := hk g (by omega)
  refine ⟨vp_in_nI (by omega) (by decide), br_c (fun b => ?_) (fun b => ?_)⟩
  · rw [nI_clamp (by omega)] at b
    exact h0 (fun z => q.mpr z b) k' ch'
  · rw [nI_clamp (by omega)] at b
    exact h1 (q.mp b) k' ch'
/-! ===== hear, unhear ===== -/
theorem xw_hear {post : Int32 → SX → Prop} {t : Nat} {st : Nat → Int32} (R : es_R T hd K so lf rt ui hY) (ht : t < T)
    (h : ∀ hd' K' st', (∀ y, bt hd' y = (bt hd y || decide (y = t))) → (∀ y, bt K' y = true ↔ es_L T so lf rt (fun y => bt hd' y = true) y) → post (nI (es_c (bt K') 28)) (nI T, hd', K', 0, so, lf, rt, ui, st')) : wpX_hear post (nI T, hd, K, 0, so, lf, rt, ui, st) (nI t) := by
  have hT := R.1.2.1
  have W := R.1
  have hb : ∀ y, bt (hd ||| ((1 : Int32) <<< (nI t &&& 31))) y = (bt hd y || decide (y = t)) := es_set (by omega) hd
  unfold wpX_hear
  refine xw_ok hT ht (nm_e ?_)
  generalize hd ||| ((1 : Int32) <<< (nI t &&& 31)) = hd' at hb ⊢
  have up : ∀ y, bt hd y = true → bt hd' y = true := fun y q => by rw [hb, q, Bool.true_or]
  have hdl : ∀ y, bt hd' y = true → y < T := fun y q => by
    rw [hb] at q
    by_cases e : y = t
    · omega
    · rw [decide_eq_false e, Bool.or_false] at q; exact R.2.2.1 y q
  have ht' : bt hd' t = true := by rw [hb, decide_eq_true rfl, Bool.or_true]
  refine xw_learn (P := es_L T so lf rt (fun y => bt hd' y = true)) (c := es_c (bt K) 28) (w := 0) (y := t) rfl hT (fun y => es_L_lt W hdl) ⟨fun y q => es_L_mono up ((R.2.2.2.1 y).mp q), by omega, fun i hi => by omega⟩ (es_L_in ht') (fun K1 w1 st1 I1 E1 q1 => ?_)
  refine xw_spread W R.2.1 es_L_cl (fun y => es_L_lt W hdl) I1 (es_SC_ext (es_SC_of (es_R_cl R) (Q := es_Q 0 st)) E1.1 E1.2.1 E1.2.2) (fun K' st' g1 g2 g3 => ?_)
  refine xw_size (h hd' K' st' hb (fun y => es_L_eq g2 (fun z q => ?_) g1 y))
  rw [hb] at q
  by_cases e : z = t
  · rw [e]; exact g3 t q1
  · rw [decide_eq_false e, Bool.or_false] at q
    exact g3 z (E1.1 z (es_R_hd R q))
theorem xw_unhear {post : Int32 → SX → Prop} {t : Nat} {st : Nat → Int32} (R : es_R T hd K so lf rt ui hY) (ht : t < T)
    (h : ∀ hd' K' st', (∀ y, bt hd' y = (bt hd y && !decide (y = t))) → (∀ y, bt K' y = true ↔ es_L T so lf rt (fun y => bt hd' y = true) y) → post (nI (es_c (bt K') 28)) (nI T, hd', K', 0, so, lf, rt, ui, st')) : wpX_unhear post (nI T, hd, K, 0, so, lf, rt, ui, st) (nI t) := by
  have hT := R.1.2.1
  have hb : ∀ y, bt (hd &&& (((1 : Int32) <<< (nI t &&& 31)) ^^^ (-1))) y = (bt hd y && !decide (y = t)) := es_clr (by omega) hd
  unfold wpX_unhear
  refine xw_ok hT ht (br_c (fun b => ?_) (fun b => nm_e ?_))
  · rw [es_tst (by omega)] at b
    unfold wX_unhear_47
    refine xw_size (h hd K st (fun y => ?_) R.2.2.2.1)
    by_cases e : y = t
    · rw [e, b]; rfl
    · rw [decide_eq_false e]; simp
  · generalize hd &&& (((1 : Int32) <<< (nI t &&& 31)) ^^^ (-1)) = hd' at hb ⊢
    refine xw_closure (hx := hd') (E := fun y => bt hd' y = true) R (fun y => ⟨fun q => q.2, fun q => ⟨?_, q⟩⟩) (fun K' st' hK' => ?_)
    · rw [hb, Bool.and_eq_true] at q
      exact R.2.2.1 y q.1
    · show wX_unhear_47 post (nI T) hd' K' 0 so lf rt ui st'
      unfold wX_unhear_47
      exact xw_size (h hd' K' st' hb hK')
theorem es_R_hear {t : Nat} {hd' K' : Int32} (R : es_R T hd K so lf rt ui hY) (ht : t < T) (hb : ∀ y, bt hd' y = (bt hd y || decide (y = t))) (hK : ∀ y, bt K' y = true ↔ es_L T so lf rt (fun y => bt hd' y = true) y) : es_R T hd' K' so lf rt ui (upd hY t 1) := by
  refine ⟨R.1, R.2.1, fun j q => ?_, hK, fun j hj => ?_⟩
  · rw [hb] at q
    by_cases e : j = t
    · omega
    · rw [decide_eq_false e, Bool.or_false] at q; exact R.2.2.1 j q
  · rw [hb]
    by_cases e : j = t
    · subst e
      rw [pk_us, decide_eq_true rfl, Bool.or_true]
      exact ⟨fun _ => rfl, fun _ => by decide⟩
    · rw [pk_un e, decide_eq_false e, Bool.or_false]
      exact R.2.2.2.2 j hj
theorem es_R_unhear {t : Nat} {hd' K' : Int32} (R : es_R T hd K so lf rt ui hY) (hb : ∀ y, bt hd' y = (bt hd y && !decide (y = t))) (hK : ∀ y, bt K' y = true ↔ es_L T so lf rt (fun y => bt hd' y = true) y) : es_R T hd' K' so lf rt ui (upd hY t 0) := by
  refine ⟨R.1, R.2.1, fun j q => ?_, hK, fun j hj => ?_⟩
  · rw [hb, Bool.and_eq_true] at q
    exact R.2.2.1 j q.1
  · rw [hb]
    by_cases e : j = t
    · subst e
      rw [pk_us, decide_eq_true rfl]
      exact ⟨fun z => absurd rfl z, fun z => by simp at z⟩
    · rw [pk_un e, decide_eq_false e, R.2.2.2.2 j hj]
      simp
end AS
end
section
section LP
variable {T : Nat} {hd K : Int32} {so lf rt ui hY : Nat → Int32}
/-! ===== leak: the first term that would give the goal away ===== -/
theorem es_V1 (R : es_R T hd K so lf rt ui hY) {e g : Nat} (he : bt K e = true) (hg : bt K g = false) : ¬ es_L T so lf rt (fun y => bt hd y = true ∨ y = e) g := fun q => by
  have z : es_L T so lf rt (fun y => bt hd y = true) g := es_L_sub (fun y hy => by
    rcases hy with h | h
    · exact es_L_in h
    · rw [h]; exact (R.2.2.2.1 e).mp he) q
  rw [(R.2.2.2.1 g).mpr z] at hg
  exact absurd hg (by decide)
theorem xw_leak23 {post : Int32 → SX → Prop} {m g : Nat} (R : es_R T hd K so lf rt ui hY) (hm : m ≤ g) (hg : g < T) (hk : bt K g = false) (hV : es_L T so lf rt (fun y => bt hd y = true ∨ y = m) g) (hmin : ∀ j, j < m → ¬ es_L T so lf rt (fun y => bt hd y = true ∨ y = j) g)
    (h : ∀ st', post (nI m) (nI T, hd, K, 0, so, lf, rt, ui, st')) : ∀ n i st, i ≤ m → g - i < n → wX_leak_23 post (nI g) n (nI i) (nI T) hd K 0 so lf rt ui st := by
  have hT := R.1.2.1
  intro n
  induction n with
  | zero => intro i st _ hn; omega
  | succ n ih =>
    intro i st hi hn
    refine pk_le g i (fun z => ?_) (fun z => ?_)
    · have e : g = m := by omega
      rw [e]; exact h st
    · have go : ¬ es_L T so lf rt (fun y => bt hd y = true ∨ y = i) g → ∀ st', wX_leak_23 post (nI g) n (nI (i + 1)) (nI T) hd K 0 so lf rt ui st' := fun q st' => by
        have e : i ≠ m := fun e => q (by rw [e]; exact hV)
        exact ih (i + 1) st' (by omega) (by omega)
      refine xw_kn i rfl (by omega) (fun k1 => nm_r (nI_1 i) (go (es_V1 R k1 hk) st)) (fun k1 => ?_)
      refine xw_rev1 R (by omega) hg (fun q st' => br_f (by decide) ?_) (fun q st' => br_t rfl (nm_r (nI_1 i) (go q st')))
      have e : i = m := by
        rcases Nat.lt_or_ge i m with w | w
        · exact absurd q (hmin i w)
        · omega
      rw [e]; exact h st'
theorem yw_leak24 {post : Int32 → SY → Prop} {m g : Nat} (R : es_R T hd K so lf rt ui hY) (hm : m ≤ g) (hg : g < T) (hV : es_L T so lf rt (fun y => bt hd y = true ∨ y = m) g) (hmin : ∀ j, j < m → ¬ es_L T so lf rt (fun y => bt hd y = true ∨ y = j) g)
    (h : ∀ k' ch', post (nI m) (nI T, ch', so, lf, rt, hY, k')) : ∀ n i ch k, i ≤ m → T - i < n → wY_leak_24 post (nI g) n (nI i) (nI T) ch so lf rt hY k := by
  have hT := R.1.2.1
  intro n
  induction n with
  | zero => intro i ch k _ hn; omega
  | succ n ih =>
    intro i ch k hi hn
    refine pk_le T i (fun z => absurd z (by omega)) (fun z => ?_)
    refine yw_would R z hg (fun q k' ch' => br_t rfl ?_) (fun q k' ch' => br_f (by decide) (nm_r (nI_1 i) (ih (i + 1) ch' k' ?_ (by omega))))
    · have e : i = m := by
        rcases Nat.lt_or_ge i m with w | w
        · exact absurd q (hmin i w)
        · omega
      rw [e]; exact h k' ch'
    · have e : i ≠ m := fun e => q (by rw [e]; exact hV)
      omega
/-! ===== atomsFor: the least size ===== -/
theorem es_b8 {s y : Nat} (hs : s < 256) (h : bt (nI s) y = true) : y < 8 := by
  rcases Nat.lt_or_ge y 8 with q | q
  · exact q
  · have h32 := es_lt28 h
    rw [es_nI s h32, Nat.testBit_lt_two_pow (Nat.lt_of_lt_of_le hs (Nat.pow_le_pow_right (by decide) q : 2 ^ 8 ≤ 2 ^ y))] at h
    exact absurd h (by decide)
theorem es_sz {s : Nat} (hs : s < 256) : es_c (bt (nI s)) 28 = es_c (bt (nI s)) 8 :=
  es_c_tail (by omega) (fun i a _ => es_nf (fun q => by have := es_b8 hs q; omega))
def aq_I (ok : Nat → Prop) (i b : Nat) : Prop := b ≤ 8 ∧ (b = 8 ∨ ∃ s, s < i ∧ ok s ∧ es_c (bt (nI s)) 8 = b) ∧ (∀ s, s < i → ok s → b ≤ es_c (bt (nI s)) 8)
theorem aq_0 {ok : Nat → Prop} : aq_I ok 0 8 := ⟨by omega, Or.inl rfl, fun s hs => by omega⟩
theorem aq_k {ok : Nat → Prop} {i b : Nat} (h : aq_I ok i b) (q : ok i → b ≤ es_c (bt (nI i)) 8) : aq_I ok (i + 1) b := by
  refine ⟨h.1, ?_, fun s hs o => ?_⟩
  · rcases h.2.1 with e | ⟨s, a, o, e⟩
    · exact Or.inl e
    · exact Or.inr ⟨s, by omega, o, e⟩
  · by_cases e : s = i
    · rw [e] at o ⊢; exact q o
    · exact h.2.2 s (by omega) o
theorem aq_n {ok : Nat → Prop} {i b : Nat} (h : aq_I ok i b) (o : ok i) (q : es_c (bt (nI i)) 8 < b) : aq_I ok (i + 1) (es_c (bt (nI i)) 8) := by
  refine ⟨by have := h.1; omega, Or.inr ⟨i, by omega, o, rfl⟩, fun s hs o' => ?_⟩
  by_cases e : s = i
  · rw [e]; exact Nat.le_refl _
  · have := h.2.2 s (by omega) o'; omega
def aq_V (T : Nat) (hd : Int32) (so lf rt : Nat → Int32) (g s : Nat) : Prop := es_L T so lf rt (fun y => bt hd y = true ∨ (y < 8 ∧ bt (nI s) y = true)) g
def aq_X (T : Nat) (hd K : Int32) (so lf rt : Nat → Int32) (g s : Nat) : Prop := aq_V T hd so lf rt g s ∧ ∀ y, bt (nI s) y = true → bt K y = false
theorem xw_atoms {post : Int32 → SX → Prop} {g : Nat} (R : es_R T hd K so lf rt ui hY) (hg : g < T)
    (h : ∀ b st', aq_I (aq_X T hd K so lf rt g) 256 b → post (nI b) (nI T, hd, K, 0, so, lf, rt, ui, st')) : ∀ n i b st, i ≤ 256 → 256 - i < n → aq_I (aq_X T hd K so lf rt g) i b → wX_atomsFor_15 post (nI g) n (nI b) (nI i) (nI T) hd K 0 so lf rt ui st := by
  have hT := R.1.2.1
  have h8 := R.1.1
  intro n
  induction n with
  | zero => intro i b st _ hn; omega
  | succ n ih =>
    intro i b st hi hn I
    have hb := I.1
    have go : ∀ b' st', aq_I (aq_X T hd K so lf rt g) (i + 1) b' → i < 256 → wX_atomsFor_15 post (nI g) n (nI b') (nI (i + 1)) (nI T) hd K 0 so lf rt ui st' := fun b' st' q z => ih (i + 1) b' st' (by omega) (by omega) q
    refine pk_le 256 i (fun z => ?_) (fun z => xw_size ?_)
    · rw [show i = 256 by omega] at I
      exact h b st I
    · rw [es_sz z]
      have hc := es_c_le (bt (nI i)) 8
      refine pk_le b (es_c (bt (nI i)) 8) (fun q => nm_r (nI_1 i) (go b st (aq_k I (fun _ => q)) z)) (fun q => br_c (fun d => ?_) (fun d => nm_r (nI_1 i) (go b st (aq_k I (fun o => absurd ?_ d)) z)))
      · have dj : ∀ y, bt (nI i) y = true → bt K y = false := fun y e => es_nf (fun e2 => by
          have := b_and (nI i) K y
          rw [d, b_0, e, e2] at this
          exact absurd this (by decide))
        refine xw_reveals (E := fun y => y < 8 ∧ bt (nI i) y = true) R (fun y => ⟨fun e => ⟨es_b8 z e.2, e.2⟩, fun e => ⟨by omega, e.2⟩⟩) hg (fun v st' => br_f (by decide) (nm_r (nI_1 i) (go _ st' (aq_n I ⟨v, dj⟩ q) z))) (fun v st' => br_t rfl (nm_r (nI_1 i) (go b st' (aq_k I (fun o => absurd o.1 v)) z)))
      · apply b_ext
        intro y _
        rw [b_and, b_0]
        cases e : bt (nI i) y
        · rfl
        · rw [o.2 y e]; rfl
theorem yw_atoms {post : Int32 → SY → Prop} {g : Nat} (R : es_R T hd K so lf rt ui hY) (hg : g < T)
    (h : ∀ b k' ch', aq_I (aq_V T hd so lf rt g) 256 b → post (nI b) (nI T, ch', so, lf, rt, hY, k')) : ∀ n i b ch k, i ≤ 256 → 256 - i < n → aq_I (aq_V T hd so lf rt g) i b → wY_atomsFor_15 post (nI g) n (nI b) (nI i) (nI T) ch so lf rt hY k := by
  have hT := R.1.2.1
  intro n
  induction n with
  | zero => intro i b ch k _ hn; omega
  | succ n ih =>
    intro i b ch k hi hn I
    have hb := I.1
    have go : ∀ b' ch' k', aq_I (aq_V T hd so lf rt g) (i + 1) b' → i < 256 → wY_atomsFor_15 post (nI g) n (nI b') (nI (i + 1)) (nI T) ch' so lf rt hY k' := fun b' ch' k' q z => ih (i + 1) b' ch' k' (by omega) (by omega) q
    refine pk_le 256 i (fun z => ?_) (fun z => yw_ones ?_)
    · rw [show i = 256 by omega] at I
      exact h b k ch I
    · have hc := es_c_le (bt (nI i)) 8
      refine pk_le b (es_c (bt (nI i)) 8) (fun q => nm_r (nI_1 i) (go b ch k (aq_k I (fun _ => q)) z)) (fun q => ?_)
      refine yw_w R.1 (ey_inS R.2.2.1 hT R.2.2.2.2) (fun k' ch' hk => ⟨vp_in_nI (by omega) (by decide), ?_⟩)
      have e := hk g (by omega)
      refine br_c (fun v => nm_r (nI_1 i) (go b ch' k' (aq_k I (fun o => ?_)) z)) (fun v => nm_r (nI_1 i) (go _ ch' k' (aq_n I ?_ q) z))
      · rw [nI_clamp (by omega)] at v
        exact absurd v (e.mpr o)
      · rw [nI_clamp (by omega)] at v
        exact e.mp v
theorem aq_eq {g b b' : Nat} (R : es_R T hd K so lf rt ui hY) (hX : aq_I (aq_X T hd K so lf rt g) 256 b) (hY' : aq_I (aq_V T hd so lf rt g) 256 b') : b' = b := by
  have l1 : b' ≤ b := by
    rcases hX.2.1 with e | ⟨s, a, o, e⟩
    · rw [e]; exact hY'.1
    · rw [← e]; exact hY'.2.2 s a o.1
  have l2 : b ≤ b' := by
    rcases hY'.2.1 with e | ⟨s, a, o, e⟩
    · rw [e]; exact hX.1
    · have hs' : s ^^^ (s &&& K.toBitVec.toNat) < 256 := Nat.xor_lt_two_pow (n := 8) a (Nat.lt_of_le_of_lt Nat.and_le_left a)
      have hb : ∀ y, y < 32 → bt (nI (s ^^^ (s &&& K.toBitVec.toNat))) y = (bt (nI s) y && !bt K y) := fun y hy => by
        rw [es_nI _ hy, es_nI _ hy, Nat.testBit_xor, Nat.testBit_and]
        show _ = (s.testBit y && !(K.toBitVec.getLsbD y))
        rw [BitVec.testBit_toNat]
        cases s.testBit y <;> cases K.toBitVec.getLsbD y <;> rfl
      generalize s ^^^ (s &&& K.toBitVec.toNat) = s' at hs' hb
      have o' : aq_X T hd K so lf rt g s' := by
        refine ⟨es_L_sub (fun y hy => ?_) o, fun y hy => ?_⟩
        · rcases hy with q | q
          · exact es_L_in (Or.inl q)
          · cases e2 : bt K y
            · refine es_L_in (Or.inr ⟨q.1, ?_⟩)
              rw [hb y (by omega), q.2, e2]; rfl
            · exact es_L_mono (fun z hz => Or.inl hz) ((R.2.2.2.1 y).mp e2)
        · rw [hb y (es_lt28 hy), Bool.and_eq_true] at hy
          cases e2 : bt K y
          · rfl
          · rw [e2] at hy; exact absurd hy.2 (by decide)
      have c := hX.2.2 s' hs' o'
      have c2 : es_c (bt (nI s')) 8 ≤ es_c (bt (nI s)) 8 := es_c_mono (fun i hi q => by
        rw [hb i (by omega), Bool.and_eq_true] at q
        exact q.1)
      omega
  omega
/-! ===== spare: how many of the heard terms are known all the same ===== -/
noncomputable def es_p (Q : Prop) : Bool := @decide Q (Classical.propDecidable Q)
theorem es_p_t {Q : Prop} (h : Q) : es_p Q = true := @decide_eq_true Q (Classical.propDecidable Q) h
theorem es_p_n {Q : Prop} (h : ¬ Q) : ¬ es_p Q = true := fun z => h (@of_decide_eq_true Q (Classical.propDecidable Q) z)
noncomputable def sp_p (T : Nat) (hd : Int32) (so lf rt : Nat → Int32) (t : Nat) : Bool := es_p (bt hd t = true ∧ es_L T so lf rt (fun y => bt hd y = true ∧ ¬ y = t) t)
theorem sp_y {i : Nat} (h1 : bt hd i = true) (h2 : es_L T so lf rt (fun y => bt hd y = true ∧ ¬ y = i) i) : es_c (sp_p T hd so lf rt) (i + 1) = es_c (sp_p T hd so lf rt) i + 1 := by
  have q : sp_p T hd so lf rt i = true := es_p_t ⟨h1, h2⟩
  rw [es_c_s, if_pos q]
theorem sp_n {i : Nat} (h : ¬ (bt hd i = true ∧ es_L T so lf rt (fun y => bt hd y = true ∧ ¬ y = i) i)) : es_c (sp_p T hd so lf rt) (i + 1) = es_c (sp_p T hd so lf rt) i := by
  have q : ¬ sp_p T hd so lf rt i = true := es_p_n h
  rw [es_c_s, if_neg q]; rfl
theorem sp_iff {t : Nat} {K' : Int32} (R : es_R T hd K so lf rt ui hY) (ht : bt hd t = true) (hK : ∀ y, bt K' y = true ↔ es_L T so lf rt (fun y => bt hd y = true ∧ ¬ y = t) y) : K' = K ↔ es_L T so lf rt (fun y => bt hd y = true ∧ ¬ y = t) t := by
  constructor
  · intro e
    rw [← hK, e]
    exact es_R_hd R ht
  · intro q
    apply b_ext
    intro i _
    have e : bt K' i = true ↔ bt K i = true := by
      rw [hK, R.2.2.2.1]
      constructor
      · exact es_L_mono (fun y hy => hy.1)
      · refine es_L_sub (fun y hy => ?_)
        by_cases e : y = t
        · rw [e]; exact q
        · exact es_L_in ⟨hy, e⟩
    cases h1 : bt K' i
    · cases h2 : bt K i
      · rfl
      · rw [e.mpr h2] at h1; exact absurd h1 (by decide)
    · exact (e.mp h1).symm
theorem xw_spare9 {post : Int32 → SX → Prop} (R : es_R T hd K so lf rt ui hY)
    (h : ∀ st', post (nI (es_c (sp_p T hd so lf rt) T)) (nI T, hd, K, 0, so, lf, rt, ui, st')) : ∀ n i Kx st, i ≤ T → T - i < n → wX_spare_9 post K n (nI (es_c (sp_p T hd so lf rt) i)) (nI i) (nI T) hd Kx 0 so lf rt ui st := by
  have hT := R.1.2.1
  intro n
  induction n with
  | zero => intro i Kx st _ hn; omega
  | succ n ih =>
    intro i Kx st hi hn
    have hy : i < T → bt hd i = true → es_L T so lf rt (fun y => bt hd y = true ∧ ¬ y = i) i → ∀ Kx st, wX_spare_9 post K n (nI (es_c (sp_p T hd so lf rt) i + 1)) (nI (i + 1)) (nI T) hd Kx 0 so lf rt ui st := fun z a b Kx st => by
      have := ih (i + 1) Kx st (by omega) (by omega)
      rw [sp_y a b] at this
      exact this
    have hn : i < T → ¬ (bt hd i = true ∧ es_L T so lf rt (fun y => bt hd y = true ∧ ¬ y = i) i) → ∀ Kx st, wX_spare_9 post K n (nI (es_c (sp_p T hd so lf rt) i)) (nI (i + 1)) (nI T) hd Kx 0 so lf rt ui st := fun z a Kx st => by
      have := ih (i + 1) Kx st (by omega) (by omega)
      rw [sp_n a] at this
      exact this
    refine pk_le T i (fun z => ?_) (fun z => br_c (fun b => ?_) (fun b => ?_))
    · have e : i = T := by omega
      rw [e]; exact h st
    · rw [es_tst (by omega)] at b
      exact nm_r (nI_1 i) (hn z (fun q => by rw [b] at q; exact absurd q.1 (by decide)) Kx st)
    · rw [es_tst (by omega)] at b
      have b' := es_nt b
      refine xw_closure (E := fun y => bt hd y = true ∧ ¬ y = i) R (fun y => ?_) (fun K' st' hK' => ?_)
      · rw [es_clr (by omega), Bool.and_eq_true]
        exact ⟨fun q => ⟨q.2.1, fun e => by have := q.2.2; rw [decide_eq_true e] at this; exact absurd this (by decide)⟩, fun q => ⟨R.2.2.1 y q.1, q.1, by rw [decide_eq_false q.2]; rfl⟩⟩
      · refine br_c (fun e => nm_r (nI_1 _) (nm_r (nI_1 i) (hy z b' ((sp_iff R b' hK').mp e) K' st'))) (fun e => nm_r (Int32.add_zero _) (nm_r (nI_1 i) (hn z (fun q => e ((sp_iff R b' hK').mpr q.2)) K' st')))
theorem yw_spare4 {post : Int32 → SY → Prop} (R : es_R T hd K so lf rt ui hY)
    (h : ∀ k' ch', post (nI (es_c (sp_p T hd so lf rt) T)) (nI T, ch', so, lf, rt, hY, k')) : ∀ n i ch k, i ≤ T → T - i < n → wY_spare_4 post n (nI (es_c (sp_p T hd so lf rt) i)) (nI i) (nI T) ch so lf rt hY k := by
  have hT := R.1.2.1
  intro n
  induction n with
  | zero => intro i ch k _ hn; omega
  | succ n ih =>
    intro i ch k hi hn
    have hy : i < T → bt hd i = true → es_L T so lf rt (fun y => bt hd y = true ∧ ¬ y = i) i → ∀ ch k, wY_spare_4 post n (nI (es_c (sp_p T hd so lf rt) i + 1)) (nI (i + 1)) (nI T) ch so lf rt hY k := fun z a b ch k => by
      have := ih (i + 1) ch k (by omega) (by omega)
      rw [sp_y a b] at this
      exact this
    have hn : i < T → ¬ (bt hd i = true ∧ es_L T so lf rt (fun y => bt hd y = true ∧ ¬ y = i) i) → ∀ ch k, wY_spare_4 post n (nI (es_c (sp_p T hd so lf rt) i)) (nI (i + 1)) (nI T) ch so lf rt hY k := fun z a ch k => by
      have := ih (i + 1) ch k (by omega) (by omega)
      rw [sp_n a] at this
      exact this
    refine pk_le T i (fun z => ?_) (fun z => ⟨vp_in_nI (by omega) (by decide), br_c (fun b => ?_) (fun b => ?_)⟩)
    · have e : i = T := by omega
      rw [e]; exact h k ch
    · rw [nI_clamp (by omega)] at b
      exact nm_r (nI_1 i) (hn z (fun q => (R.2.2.2.2 i (by omega)).mpr q.1 b) ch k)
    · rw [nI_clamp (by omega)] at b
      have b' := (R.2.2.2.2 i (by omega)).mp b
      refine yw_w R.1 (ey_inW R.2.2.1 hT R.2.2.2.2 z) (fun k' ch' hk => ⟨vp_in_nI (by omega) (by decide), ?_⟩)
      have e := hk i (by omega)
      refine br_c (fun v => nm_r (nI_1 i) (hn z (fun q => ?_) ch' k')) (fun v => nm_r (nI_1 _) (nm_r (nI_1 i) (hy z b' ?_ ch' k')))
      · rw [nI_clamp (by omega)] at v
        exact e.mpr q.2 v
      · rw [nI_clamp (by omega)] at v
        exact e.mp v
end LP
end
section
/-! ===== what is owed ===== -/
theorem i_vc_pair {k : Nat} {u : SX} {v : SY} (I : i_Rel k u v) (hk : k + 3 ≤ 1536) (v1 : Int32) (v2 : Int32) : wpX_pair (fun r u' => wpY_pair (fun r' v' => r' = r ∧ i_Rel (k + 3) u' v') v v1 v2) u v1 v2 := by
  refine es_el (Pp := fun u v => wpX_pair (fun r u' => wpY_pair (fun r' v' => r' = r ∧ i_Rel (k + 3) u' v') v v1 v2) u v1 v2) I ?_
  intro T hd K so lf rt ui st ch hY kk R
  have hT := R.1.2.1
  unfold wpX_pair wpY_pair wpY_make
  rcases es_ix v1 hT with h1 | ⟨a, ha, rfl⟩
  · exact xw_bad h1 (yw_bad h1 ⟨rfl, es_mkR R⟩)
  · rcases es_ix v2 hT with h2 | ⟨b, hb, rfl⟩
    · exact xw_ok hT ha (xw_bad h2 (yw_ok hT ha (yw_bad h2 ⟨rfl, es_mkR R⟩)))
    · obtain ⟨r, T', so', lf', rt', hX, hY'⟩ := es_make (n := k + 3) (st := st) (ch := ch) (k := kk) (s := 1) R ha hb (Or.inl rfl)
      refine xw_ok hT ha (xw_ok hT hb (hX _ (fun K' ui' st' rel => ?_)))
      exact yw_ok hT ha (yw_ok hT hb (hY' _ ⟨rfl, rel⟩))
theorem i_vc_lock {k : Nat} {u : SX} {v : SY} (I : i_Rel k u v) (hk : k + 3 ≤ 1536) (v1 : Int32) (v2 : Int32) : wpX_lock (fun r u' => wpY_lock (fun r' v' => r' = r ∧ i_Rel (k + 3) u' v') v v1 v2) u v1 v2 := by
  refine es_el (Pp := fun u v => wpX_lock (fun r u' => wpY_lock (fun r' v' => r' = r ∧ i_Rel (k + 3) u' v') v v1 v2) u v1 v2) I ?_
  intro T hd K so lf rt ui st ch hY kk R
  have hT := R.1.2.1
  unfold wpX_lock wpY_lock wpY_make
  rcases es_ix v1 hT with h1 | ⟨a, ha, rfl⟩
  · exact xw_bad h1 (yw_bad h1 ⟨rfl, es_mkR R⟩)
  · rcases es_ix v2 hT with h2 | ⟨b, hb, rfl⟩
    · exact xw_ok hT ha (xw_bad h2 (yw_ok hT ha (yw_bad h2 ⟨rfl, es_mkR R⟩)))
    · obtain ⟨r, T', so', lf', rt', hX, hY'⟩ := es_make (n := k + 3) (st := st) (ch := ch) (k := kk) (s := 2) R ha hb (Or.inr rfl)
      refine xw_ok hT ha (xw_ok hT hb (hX _ (fun K' ui' st' rel => ?_)))
      exact yw_ok hT ha (yw_ok hT hb (hY' _ ⟨rfl, rel⟩))
theorem i_vc_hear {k : Nat} {u : SX} {v : SY} (I : i_Rel k u v) (hk : k + 3 ≤ 1536) (v1 : Int32) : wpX_hear (fun r u' => wpY_hear (fun r' v' => r' = r ∧ i_Rel (k + 3) u' v') v v1) u v1 := by
  refine es_el (Pp := fun u v => wpX_hear (fun r u' => wpY_hear (fun r' v' => r' = r ∧ i_Rel (k + 3) u' v') v v1) u v1) I ?_
  intro T hd K so lf rt ui st ch hY kk R
  have hT := R.1.2.1
  rcases es_ix v1 hT with h1 | ⟨a, ha, rfl⟩
  · unfold wpX_hear wpY_hear
    exact xw_bad h1 (yw_bad h1 ⟨rfl, es_mkR R⟩)
  · refine xw_hear R ha (fun hd' K' st' hb hK => ?_)
    have R' := es_R_hear R ha hb hK
    unfold wpY_hear
    refine yw_ok hT ha ⟨vp_in_nI (by omega) (by decide), nm_r (e' := upd hY a 1) (by rw [nI_clamp (by omega)]; rfl) ?_⟩
    exact yw_known R' (fun k' ch' => ⟨rfl, es_mkR R'⟩)
theorem i_vc_unhear {k : Nat} {u : SX} {v : SY} (I : i_Rel k u v) (hk : k + 3 ≤ 1536) (v1 : Int32) : wpX_unhear (fun r u' => wpY_unhear (fun r' v' => r' = r ∧ i_Rel (k + 3) u' v') v v1) u v1 := by
  refine es_el (Pp := fun u v => wpX_unhear (fun r u' => wpY_unhear (fun r' v' => r' = r ∧ i_Rel (k + 3) u' v') v v1) u v1) I ?_
  intro T hd K so lf rt ui st ch hY kk R
  have hT := R.1.2.1
  rcases es_ix v1 hT with h1 | ⟨a, ha, rfl⟩
  · unfold wpX_unhear wpY_unhear
    exact xw_bad h1 (yw_bad h1 ⟨rfl, es_mkR R⟩)
  · refine xw_unhear R ha (fun hd' K' st' hb hK => ?_)
    have R' := es_R_unhear R hb hK
    unfold wpY_unhear
    refine yw_ok hT ha ⟨vp_in_nI (by omega) (by decide), nm_r (e' := upd hY a 0) (by rw [nI_clamp (by omega)]; rfl) ?_⟩
    exact yw_known R' (fun k' ch' => ⟨rfl, es_mkR R'⟩)
theorem i_vc_knows {k : Nat} {u : SX} {v : SY} (I : i_Rel k u v) (hk : k + 3 ≤ 1536) (v1 : Int32) : wpX_knows (fun r => wpY_knows (fun r' v' => r' = r ∧ i_Rel (k + 3) u v') v v1) u v1 := by
  refine es_el (Pp := fun u v => wpX_knows (fun r => wpY_knows (fun r' v' => r' = r ∧ i_Rel (k + 3) u v') v v1) u v1) I ?_
  intro T hd K so lf rt ui st ch hY kk R
  have hT := R.1.2.1
  unfold wpX_knows
  rcases es_ix v1 hT with h1 | ⟨a, ha, rfl⟩
  · unfold wpY_knows
    exact xw_bad h1 (yw_bad h1 ⟨rfl, es_mkR R⟩)
  · refine xw_ok hT ha (xw_kn a rfl (by omega) (fun q => ?_) (fun q => ?_))
    · exact yw_knows R ha (fun _ k' ch' => ⟨rfl, es_mkR R⟩) (fun z => by rw [q] at z; exact absurd z (by decide))
    · exact yw_knows R ha (fun z => by rw [q] at z; exact absurd z (by decide)) (fun _ k' ch' => ⟨rfl, es_mkR R⟩)
theorem i_vc_known {k : Nat} {u : SX} {v : SY} (I : i_Rel k u v) (hk : k + 3 ≤ 1536) : wpX_known (fun r => wpY_known (fun r' v' => r' = r ∧ i_Rel (k + 3) u v') v) u := by
  refine es_el (Pp := fun u v => wpX_known (fun r => wpY_known (fun r' v' => r' = r ∧ i_Rel (k + 3) u v') v) u) I ?_
  intro T hd K so lf rt ui st ch hY kk R
  unfold wpX_known
  exact xw_size (yw_known R (fun k' ch' => ⟨rfl, es_mkR R⟩))
theorem i_vc_would {k : Nat} {u : SX} {v : SY} (I : i_Rel k u v) (hk : k + 3 ≤ 1536) (v1 : Int32) (v2 : Int32) : wpX_would (fun r u' => wpY_would (fun r' v' => r' = r ∧ i_Rel (k + 3) u' v') v v1 v2) u v1 v2 := by
  refine es_el (Pp := fun u v => wpX_would (fun r u' => wpY_would (fun r' v' => r' = r ∧ i_Rel (k + 3) u' v') v v1 v2) u v1 v2) I ?_
  intro T hd K so lf rt ui st ch hY kk R
  have hT := R.1.2.1
  unfold wpX_would
  rcases es_ix v1 hT with h1 | ⟨a, ha, rfl⟩
  · unfold wpY_would
    exact xw_bad h1 (yw_bad h1 ⟨rfl, es_mkR R⟩)
  · rcases es_ix v2 hT with h2 | ⟨b, hb, rfl⟩
    · unfold wpY_would
      exact xw_ok hT ha (xw_bad h2 (yw_ok hT ha (yw_bad h2 ⟨rfl, es_mkR R⟩)))
    · refine xw_ok hT ha (xw_ok hT hb (xw_rev1 R ha hb (fun q st' => br_f (by decide) ?_) (fun q st' => br_t rfl ?_)))
      · exact yw_would R ha hb (fun _ k' ch' => ⟨rfl, es_mkR R⟩) (fun z => absurd q z)
      · exact yw_would R ha hb (fun z => absurd z q) (fun _ k' ch' => ⟨rfl, es_mkR R⟩)
theorem i_vc_leak {k : Nat} {u : SX} {v : SY} (I : i_Rel k u v) (hk : k + 3 ≤ 1536) (v1 : Int32) : wpX_leak (fun r u' => wpY_leak (fun r' v' => r' = r ∧ i_Rel (k + 3) u' v') v v1) u v1 := by
  refine es_el (Pp := fun u v => wpX_leak (fun r u' => wpY_leak (fun r' v' => r' = r ∧ i_Rel (k + 3) u' v') v v1) u v1) I ?_
  intro T hd K so lf rt ui st ch hY kk R
  have hT := R.1.2.1
  unfold wpX_leak wpY_leak
  rcases es_ix v1 hT with h1 | ⟨g, hg, rfl⟩
  · exact xw_bad h1 (yw_bad h1 ⟨rfl, es_mkR R⟩)
  · refine xw_ok hT hg (xw_kn g rfl (by omega) (fun q => ?_) (fun q => ?_))
    · exact yw_ok hT hg (yw_knows R hg (fun _ k' ch' => br_t rfl ⟨rfl, es_mkR R⟩) (fun z => by rw [q] at z; exact absurd z (by decide)))
    · obtain ⟨m, hV, hmin⟩ := pk_least (fun t => es_L T so lf rt (fun y => bt hd y = true ∨ y = t) g) ⟨g, es_L_in (Or.inr rfl)⟩
      have hm : m ≤ g := by
        rcases Nat.lt_or_ge g m with w | w
        · exact absurd (es_L_in (Or.inr rfl)) (hmin g w)
        · exact w
      refine ⟨g + 1, xw_leak23 R hm hg q hV hmin (fun st' => ?_) (g + 1) 0 st (by omega) (by omega)⟩
      refine yw_ok hT hg (yw_knows R hg (fun z => by rw [q] at z; exact absurd z (by decide)) (fun _ k' ch' => br_f (by decide) ⟨T + 1, ?_⟩))
      exact yw_leak24 R hm hg hV hmin (fun k'' ch'' => ⟨rfl, es_mkR R⟩) (T + 1) 0 ch' k' (by omega) (by omega)
theorem i_vc_atomsFor {k : Nat} {u : SX} {v : SY} (I : i_Rel k u v) (hk : k + 3 ≤ 1536) (v1 : Int32) : wpX_atomsFor (fun r u' => wpY_atomsFor (fun r' v' => r' = r ∧ i_Rel (k + 3) u' v') v v1) u v1 := by
  refine es_el (Pp := fun u v => wpX_atomsFor (fun r u' => wpY_atomsFor (fun r' v' => r' = r ∧ i_Rel (k + 3) u' v') v v1) u v1) I ?_
  intro T hd K so lf rt ui st ch hY kk R
  have hT := R.1.2.1
  unfold wpX_atomsFor wpY_atomsFor
  rcases es_ix v1 hT with h1 | ⟨g, hg, rfl⟩
  · exact xw_bad h1 (yw_bad h1 ⟨rfl, es_mkR R⟩)
  · refine xw_ok hT hg ⟨257, xw_atoms R hg (fun b st' hX => ?_) 257 0 8 st (by omega) (by omega) aq_0⟩
    refine yw_ok hT hg ⟨257, yw_atoms R hg (fun b' k' ch' hY' => ?_) 257 0 8 ch kk (by omega) (by omega) aq_0⟩
    exact ⟨by rw [aq_eq R hX hY'], es_mkR R⟩
theorem i_vc_spare {k : Nat} {u : SX} {v : SY} (I : i_Rel k u v) (hk : k + 3 ≤ 1536) : wpX_spare (fun r u' => wpY_spare (fun r' v' => r' = r ∧ i_Rel (k + 3) u' v') v) u := by
  refine es_el (Pp := fun u v => wpX_spare (fun r u' => wpY_spare (fun r' v' => r' = r ∧ i_Rel (k + 3) u' v') v) u) I ?_
  intro T hd K so lf rt ui st ch hY kk R
  have hT := R.1.2.1
  refine ⟨T + 1, xw_spare9 R (fun st' => ?_) (T + 1) 0 K st (by omega) (by omega)⟩
  exact ⟨T + 1, yw_spare4 R (fun k' ch' => ⟨rfl, es_mkR R⟩) (T + 1) 0 ch kk (by omega) (by omega)⟩
end
