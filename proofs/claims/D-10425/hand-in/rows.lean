section
/-! bits of small naturals, and of their ints -/
def ph_sub (m W : Nat) : Prop := ∀ i, m.testBit i = true → W.testBit i = true
theorem ph_and (a b : Nat) : nI a &&& nI b = nI (a &&& b) := by
  apply Int32.toBitVec_inj.1
  show BitVec.ofNat 32 a &&& BitVec.ofNat 32 b = BitVec.ofNat 32 (a &&& b)
  apply BitVec.eq_of_getLsbD_eq
  intro i hi
  simp [hi]
theorem ph_or (a b : Nat) : nI a ||| nI b = nI (a ||| b) := by
  apply Int32.toBitVec_inj.1
  show BitVec.ofNat 32 a ||| BitVec.ofNat 32 b = BitVec.ofNat 32 (a ||| b)
  apply BitVec.eq_of_getLsbD_eq
  intro i hi
  simp [hi]
theorem ph_xor (a b : Nat) : nI a ^^^ nI b = nI (a ^^^ b) := by
  apply Int32.toBitVec_inj.1
  show BitVec.ofNat 32 a ^^^ BitVec.ofNat 32 b = BitVec.ofNat 32 (a ^^^ b)
  apply BitVec.eq_of_getLsbD_eq
  intro i hi
  simp [hi]
theorem ph_m1 : (-1 : Int32) = nI (2 ^ 32 - 1) := by decide
theorem ph_m2 : (-2 : Int32) = nI (2 ^ 32 - 1 - 1) := by decide
theorem ph_hi {m i : Nat} (h : m < 256) (hi : 8 ≤ i) : m.testBit i = false := by
  have h2 : 2 ^ 8 ≤ 2 ^ i := Nat.pow_le_pow_right (by omega) hi
  exact Nat.testBit_lt_two_pow (Nat.lt_of_lt_of_le h h2)
theorem ph_i8 {m i : Nat} (h : m < 256) (e : m.testBit i = true) : i < 8 := by
  rcases Nat.lt_or_ge i 8 with z | z
  · exact z
  · rw [ph_hi h z] at e
    exact absurd e (by decide)
theorem ph_lt {m : Nat} (h : ∀ i, m.testBit i = true → i < 8) : m < 256 := by
  refine Nat.lt_pow_two_of_testBit (n := 8) m (fun i hi => ?_)
  cases e : m.testBit i with
  | false => rfl
  | true => exact absurd (h i e) (by omega)
theorem ph_subLt {m W : Nat} (h : ph_sub m W) (hW : W < 256) : m < 256 := ph_lt (fun i hi => ph_i8 hW (h i hi))
theorem ph_p8 {r : Nat} (hr : r < 8) : 2 ^ r < 256 := Nat.pow_lt_pow_right (a := 2) (n := 8) (by omega) hr
theorem ph_orLt {m r : Nat} (hm : m < 256) (hr : r < 8) : m ||| 2 ^ r < 256 := Nat.or_lt_two_pow (n := 8) hm (ph_p8 hr)
theorem ph_add_b (m r i : Nat) : (m ||| 2 ^ r).testBit i = (m.testBit i || decide (i = r)) := by
  rw [Nat.testBit_or, Nat.testBit_two_pow]
  by_cases e : i = r
  · simp [e]
  · simp [e, Ne.symm e]
def ph_clr (M r : Nat) : Nat := if M.testBit r then M ^^^ 2 ^ r else M
theorem ph_clr_b (M r i : Nat) : (ph_clr M r).testBit i = (M.testBit i && !decide (i = r)) := by
  unfold ph_clr
  by_cases h : M.testBit r = true
  · rw [if_pos h, Nat.testBit_xor, Nat.testBit_two_pow]
    by_cases e : i = r
    · subst e
      simp [h]
    · simp [e, Ne.symm e]
  · rw [if_neg h]
    by_cases e : i = r
    · subst e
      simp [h]
    · simp [e]
theorem ph_clr_t {M r i : Nat} (h : (ph_clr M r).testBit i = true) : M.testBit i = true ∧ i ≠ r := by
  rw [ph_clr_b] at h
  by_cases e : i = r
  · simp [e] at h
  · simp [e] at h
    exact ⟨h, e⟩
theorem ph_clr_m {M r i : Nat} (h : M.testBit i = true) (e : i ≠ r) : (ph_clr M r).testBit i = true := by
  rw [ph_clr_b, h]
  simp [e]
theorem ph_clr_n {M r i : Nat} (e : i ≠ r) : (ph_clr M r).testBit i = M.testBit i := by
  rw [ph_clr_b]
  simp [e]
theorem ph_add_n {M r i : Nat} (e : i ≠ r) : (M ||| 2 ^ r).testBit i = M.testBit i := by
  rw [ph_add_b]
  simp [e]
theorem ph_add_s {M r : Nat} : (M ||| 2 ^ r).testBit r = true := by
  rw [ph_add_b]
  simp
theorem ph_clr_s {M r : Nat} : (ph_clr M r).testBit r = false := by
  rw [ph_clr_b]
  simp
theorem ph_add_m {M r i : Nat} (h : M.testBit i = true) : (M ||| 2 ^ r).testBit i = true := by
  rw [ph_add_b, h]
  rfl
theorem ph_f {b : Bool} (h : ¬ b = true) : b = false := by
  cases b
  · rfl
  · exact absurd rfl h
theorem ph_tf {b : Bool} (h : b = true) (h' : b = false) : False := by
  rw [h] at h'
  exact absurd h' (by decide)
theorem ph_or_inj {m i r : Nat} (hm : m.testBit r = false) (hi : i.testBit r = false) (e : m ||| 2 ^ r = i ||| 2 ^ r) : m = i := by
  apply Nat.eq_of_testBit_eq
  intro j
  by_cases ej : j = r
  · rw [ej, hm, hi]
  · rw [← ph_add_n (M := m) ej, ← ph_add_n (M := i) ej, e]
theorem ph_or_clr {m r : Nat} (h : m.testBit r = true) : ph_clr m r ||| 2 ^ r = m := by
  apply Nat.eq_of_testBit_eq
  intro j
  by_cases ej : j = r
  · rw [ej, ph_add_s, h]
  · rw [ph_add_n ej, ph_clr_n ej]
theorem ph_nt {m W : Nat} (hm : m < 256) : nI m &&& (nI W ^^^ (-1)) = 0 ↔ ph_sub m W := by
  rw [ph_m1, ph_xor, ph_and, ← nI_0]
  have hb : m &&& (W ^^^ (2 ^ 32 - 1)) ≤ m := Nat.and_le_left
  rw [nI_eq (by omega) (by omega)]
  constructor
  · intro e i hi
    have h8 := ph_i8 hm hi
    have g : (m &&& (W ^^^ (2 ^ 32 - 1))).testBit i = false := by rw [e]; exact Nat.zero_testBit i
    rw [Nat.testBit_and, Nat.testBit_xor, Nat.testBit_two_pow_sub_one, hi, decide_eq_true (show i < 32 by omega)] at g
    cases hw : W.testBit i with
    | true => rfl
    | false =>
      rw [hw] at g
      exact absurd g (by decide)
  · intro h
    apply Nat.eq_of_testBit_eq
    intro i
    rw [Nat.testBit_and, Nat.testBit_xor, Nat.testBit_two_pow_sub_one, Nat.zero_testBit]
    cases hi : m.testBit i with
    | false => rfl
    | true =>
      have h8 := ph_i8 hm hi
      rw [h i hi, decide_eq_true (show i < 32 by omega)]
      rfl
theorem ph_clrI {W r : Nat} (hW : W < 256) : nI W &&& (nI (2 ^ r) ^^^ (-1)) = nI (ph_clr W r) := by
  rw [ph_m1, ph_xor, ph_and]
  congr 1
  apply Nat.eq_of_testBit_eq
  intro i
  rw [Nat.testBit_and, Nat.testBit_xor, Nat.testBit_two_pow_sub_one, Nat.testBit_two_pow, ph_clr_b]
  cases hi : W.testBit i with
  | false => rfl
  | true =>
    have h8 := ph_i8 hW hi
    rw [decide_eq_true (show i < 32 by omega)]
    by_cases e : i = r
    · simp [e]
    · simp [e, Ne.symm e]
theorem ph_clrLt {W r : Nat} (hW : W < 256) : ph_clr W r < 256 := ph_lt (fun i hi => ph_i8 hW (ph_clr_t hi).1)
theorem ph_shl : ∀ r, r < 8 → (1 : Int32) <<< (nI r &&& 31) = nI (2 ^ r) := by decide +kernel
theorem ph_every : ∀ n, n < 9 → ((1 : Int32) <<< (nI n &&& 31)) - 1 = nI (2 ^ n - 1) := by decide +kernel
theorem ph_sl : ∀ n, n < 32 → ((nI n &&& 31).toBitVec.smod 32).toNat = n := by decide +kernel
theorem ph_bit {W r : Nat} (hW : W < 256) (hr : r < 8) : (nI W >>> (nI r &&& 31)) &&& 1 = nI (if W.testBit r then 1 else 0) := by
  rw [pk_shrN (by omega) _ r (ph_sl r (by omega))]
  show nI (W / 2 ^ r) &&& nI 1 = _
  rw [ph_and, Nat.and_one_is_mod, Nat.testBit_eq_decide_div_mod_eq]
  rcases Nat.mod_two_eq_zero_or_one (W / 2 ^ r) with h | h
  · rw [h]
    rfl
  · rw [h]
    rfl
theorem ph_bit1 {W r : Nat} (hW : W < 256) (hr : r < 8) : (nI W >>> (nI r &&& 31)) &&& 1 = 1 ↔ W.testBit r = true := by
  rw [ph_bit hW hr]
  cases W.testBit r with
  | false => exact ⟨fun z => absurd z (by decide), fun z => absurd z (by decide)⟩
  | true => exact ⟨fun _ => rfl, fun _ => rfl⟩
theorem ph_bit0 {W r : Nat} (hW : W < 256) (hr : r < 8) : (nI W >>> (nI r &&& 31)) &&& 1 = 0 ↔ W.testBit r = false := by
  rw [ph_bit hW hr]
  cases W.testBit r with
  | true => exact ⟨fun z => absurd z (by decide), fun z => absurd z (by decide)⟩
  | false => exact ⟨fun _ => rfl, fun _ => rfl⟩
theorem ph_tb {m a : Nat} (hm : m < 256) : nI m &&& nI (2 ^ a) = 0 ↔ m.testBit a = false := by
  rw [ph_and, ← nI_0]
  have hb : m &&& 2 ^ a ≤ m := Nat.and_le_left
  rw [nI_eq (by omega) (by omega)]
  constructor
  · intro e
    have g : (m &&& 2 ^ a).testBit a = false := by rw [e]; exact Nat.zero_testBit a
    rw [Nat.testBit_and, Nat.testBit_two_pow_self, Bool.and_true] at g
    exact g
  · intro h
    apply Nat.eq_of_testBit_eq
    intro i
    rw [Nat.testBit_and, Nat.testBit_two_pow, Nat.zero_testBit]
    by_cases e : a = i
    · rw [← e, h]
      rfl
    · rw [decide_eq_false e, Bool.and_false]
theorem ph_ix (r s : Nat) : nI r * 8 + nI s = nI (r * 8 + s) := by
  show nI r * nI 8 + nI s = _
  rw [pk_mul, nI_add]
end
section
/-! one row of the table: cost and mask at m; D: reads begun, W: reads at work; C: cost of a full mask -/
def ph_mok (D W m M : Nat) : Prop := ph_sub M D ∧ (∀ i, W.testBit i = true → M.testBit i = m.testBit i) ∧ M.testBit 0 = false
def ph_row (C : Nat → Nat) (D W m : Nat) (c b : Int32) : Prop :=
  (m.testBit 0 = true → c = nI 1000000) ∧ (m.testBit 0 = false → ∃ M, ph_mok D W m M ∧ c = nI (C M) ∧ b = nI M ∧ ∀ M', ph_mok D W m M' → C M ≤ C M')
def ph_tab (C : Nat → Nat) (D W : Nat) (a3 a4 : Nat → Int32) : Prop := ∀ m, ph_sub m W → ph_row C D W m (a3 m) (a4 m)
theorem ph_row_keep {C : Nat → Nat} {D W m r : Nat} {c b : Int32} (hm : m.testBit r = false) (hr : D.testBit r = false) (h : ph_row C D W m c b) : ph_row C (D ||| 2 ^ r) (W ||| 2 ^ r) m c b := by
  refine ⟨h.1, fun h0 => ?_⟩
  obtain ⟨M, ⟨k1, k2, k3⟩, e1, e2, e3⟩ := h.2 h0
  have hMr : M.testBit r = false := ph_f (fun e => ph_tf (k1 r e) hr)
  refine ⟨M, ⟨fun i hi => ph_add_m (k1 i hi), fun i hi => ?_, k3⟩, e1, e2, fun M' hM' => e3 M' ⟨fun i hi => ?_, fun i hi => hM'.2.1 i (ph_add_m hi), hM'.2.2⟩⟩
  · by_cases e : i = r
    · rw [e, hMr, hm]
    · rw [ph_add_n e] at hi
      exact k2 i hi
  · have g := hM'.1 i hi
    by_cases e : i = r
    · have g2 := hM'.2.1 r ph_add_s
      rw [e, g2] at hi
      exact absurd hi (by rw [hm]; decide)
    · rw [ph_add_n e] at g
      exact g
theorem ph_row_beg0 {C : Nat → Nat} {D W m : Nat} {b : Int32} : ph_row C D W (m ||| 2 ^ 0) (nI 1000000) b :=
  ⟨fun _ => rfl, fun h => absurd h (by rw [ph_add_s]; decide)⟩
theorem ph_row_beg {C : Nat → Nat} {D W m r : Nat} {c b : Int32} (hr0 : r ≠ 0) (hWr : W.testBit r = false) (hC : ∀ M M', (∀ i, i ≠ r → M.testBit i = M'.testBit i) → C M = C M')
    (h : ph_row C D W m c b) : ph_row C (D ||| 2 ^ r) (W ||| 2 ^ r) (m ||| 2 ^ r) c (b ||| nI (2 ^ r)) := by
  have z0 : (m ||| 2 ^ r).testBit 0 = m.testBit 0 := ph_add_n (Ne.symm hr0)
  refine ⟨fun h0 => h.1 (z0.symm.trans h0), fun h0 => ?_⟩
  obtain ⟨M, ⟨k1, k2, k3⟩, e1, e2, e3⟩ := h.2 (z0.symm.trans h0)
  have ec : C (M ||| 2 ^ r) = C M := hC _ _ (fun i hi => ph_add_n hi)
  refine ⟨M ||| 2 ^ r, ⟨fun i hi => ?_, fun i hi => ?_, ?_⟩, by rw [ec]; exact e1, by rw [e2, ph_or], fun M' hM' => ?_⟩
  · by_cases e : i = r
    · rw [e]
      exact ph_add_s
    · rw [ph_add_n e] at hi
      exact ph_add_m (k1 i hi)
  · by_cases e : i = r
    · rw [e, ph_add_s, ph_add_s]
    · rw [ph_add_n e] at hi
      rw [ph_add_n e, ph_add_n e]
      exact k2 i hi
  · rw [ph_add_n (Ne.symm hr0)]
    exact k3
  · obtain ⟨l1, l2, l3⟩ := hM'
    have g := e3 (ph_clr M' r) ⟨fun i hi => ?_, fun i hi => ?_, by rw [ph_clr_n (Ne.symm hr0)]; exact l3⟩
    · rw [ec, ← hC (ph_clr M' r) M' (fun i hi => ph_clr_n hi)]
      exact g
    · obtain ⟨g1, g2⟩ := ph_clr_t hi
      have g3 := l1 i g1
      rw [ph_add_n g2] at g3
      exact g3
    · have e : i ≠ r := fun e => ph_tf (e ▸ hi) hWr
      rw [ph_clr_n e]
      have g3 := l2 i (ph_add_m hi)
      rw [ph_add_n e] at g3
      exact g3
theorem ph_mokA {D W m r M : Nat} (h : ph_mok D W m M) : ph_mok D (ph_clr W r) m M :=
  ⟨h.1, fun i hi => h.2.1 i (ph_clr_t hi).1, h.2.2⟩
theorem ph_mokA' {D W m r M : Nat} (h : ph_mok D W (m ||| 2 ^ r) M) : ph_mok D (ph_clr W r) m M :=
  ⟨h.1, fun i hi => by
    obtain ⟨g1, g2⟩ := ph_clr_t hi
    have g := h.2.1 i g1
    rw [ph_add_n g2] at g
    exact g, h.2.2⟩
theorem ph_mokB {D W m r M : Nat} (hm : m.testBit r = false) (h : ph_mok D (ph_clr W r) m M) (hM : M.testBit r = false) : ph_mok D W m M :=
  ⟨h.1, fun i hi => by
    by_cases e : i = r
    · rw [e, hM, hm]
    · exact h.2.1 i (ph_clr_m hi e), h.2.2⟩
theorem ph_mokB' {D W m r M : Nat} (h : ph_mok D (ph_clr W r) m M) (hM : M.testBit r = true) : ph_mok D W (m ||| 2 ^ r) M :=
  ⟨h.1, fun i hi => by
    by_cases e : i = r
    · rw [e, hM, ph_add_s]
    · rw [ph_add_n e]
      exact h.2.1 i (ph_clr_m hi e), h.2.2⟩
theorem ph_row_join {C : Nat → Nat} {D W m r : Nat} {c b c' b' c2 b2 : Int32} (hm : m.testBit r = false) (hC : ∀ M, C M < 1000000) (h : ph_row C D W m c b) (h' : ph_row C D W (m ||| 2 ^ r) c' b')
    (J : (¬ c ≤ c' ∧ c2 = c' ∧ b2 = b') ∨ (c ≤ c' ∧ c2 = c ∧ (b2 = b ∨ (c' = c ∧ b2 = b')))) : ph_row C D (ph_clr W r) m c2 b2 := by
  constructor
  · intro h0
    have hr0 : (0 : Nat) ≠ r := fun e => ph_tf h0 (e ▸ hm)
    have e1 := h.1 h0
    have e2 := h'.1 (by rw [ph_add_n hr0]; exact h0)
    rcases J with ⟨j1, _, _⟩ | ⟨_, j2, _⟩
    · exact absurd (by rw [e1, e2]; exact nI_le (Nat.le_refl _) (by omega)) j1
    · rw [j2, e1]
  · intro h0
    obtain ⟨M, k, e1, e2, e3⟩ := h.2 h0
    by_cases hr0 : 0 = r
    · have e4 := h'.1 (by rw [hr0]; exact ph_add_s)
      have hlt := hC M
      have hle : c ≤ c' := by
        rw [e1, e4]
        exact nI_le (by omega) (by omega)
      have hne : ¬ c' = c := by
        rw [e1, e4, nI_eq (by omega) (by omega)]
        omega
      rcases J with ⟨j1, _, _⟩ | ⟨_, j2, j3 | ⟨j3, _⟩⟩
      · exact absurd hle j1
      · refine ⟨M, ph_mokA k, by rw [j2, e1], by rw [j3, e2], fun M' hM' => e3 M' (ph_mokB hm hM' ?_)⟩
        rw [← hr0]
        exact hM'.2.2
      · exact absurd j3 hne
    · obtain ⟨M', k', e1', e2', e3'⟩ := h'.2 (by rw [ph_add_n hr0]; exact h0)
      have l1 := hC M
      have l2 := hC M'
      have big : ∀ X, X ≤ C M → X ≤ C M' → ∀ M2, ph_mok D (ph_clr W r) m M2 → X ≤ C M2 := by
        intro X hX hX' M2 hM2
        cases hb : M2.testBit r with
        | false => exact Nat.le_trans hX (e3 M2 (ph_mokB hm hM2 hb))
        | true => exact Nat.le_trans hX' (e3' M2 (ph_mokB' hM2 hb))
      rcases J with ⟨j1, j2, j3⟩ | ⟨j1, j2, j3 | ⟨j3, j4⟩⟩
      · rw [e1, e1', nI_leI (by omega) (by omega)] at j1
        exact ⟨M', ph_mokA' k', by rw [j2, e1'], by rw [j3, e2'], big _ (by omega) (by omega)⟩
      · rw [e1, e1', nI_leI (by omega) (by omega)] at j1
        exact ⟨M, ph_mokA k, by rw [j2, e1], by rw [j3, e2], big _ (by omega) (by omega)⟩
      · have j3' := j3
        rw [e1, e1', nI_eq (by omega) (by omega)] at j3'
        exact ⟨M', ph_mokA' k', by rw [j2, ← j3, e1'], by rw [j4, e2'], big _ (by omega) (by omega)⟩
theorem ph_row_add {C C' : Nat → Nat} {D W m f : Nat} {c b : Int32} (hf : ∀ M, ph_mok D W m M → C' M = C M + f) (h : ph_row C D W m c b) (h0 : m.testBit 0 = false) : ph_row C' D W m (c + nI f) b := by
  refine ⟨fun z => (ph_tf z h0).elim, fun _ => ?_⟩
  obtain ⟨M, k, e1, e2, e3⟩ := h.2 h0
  refine ⟨M, k, by rw [e1, nI_add, hf M k], e2, fun M' k' => ?_⟩
  have g := e3 M' k'
  rw [hf M k, hf M' k']
  omega
theorem ph_row_add0 {C C' : Nat → Nat} {D W m : Nat} {c b : Int32} (h : ph_row C D W m c b) (h0 : m.testBit 0 = true) : ph_row C' D W m c b :=
  ⟨h.1, fun z => (ph_tf h0 z).elim⟩
end
section
/-! sums, the cost of a site, the cost of a mask -/
def ph_sm (f : Nat → Nat) : Nat → Nat
  | 0 => 0
  | n + 1 => ph_sm f n + f n
theorem ph_sm_congr {f g : Nat → Nat} : ∀ {n : Nat}, (∀ i, i < n → f i = g i) → ph_sm f n = ph_sm g n := by
  intro n
  induction n with
  | zero => exact fun _ => rfl
  | succ n ih =>
    intro h
    show ph_sm f n + f n = ph_sm g n + g n
    rw [ih (fun i hi => h i (by omega)), h n (by omega)]
theorem ph_sm_le {f g : Nat → Nat} : ∀ {n : Nat}, (∀ i, i < n → f i ≤ g i) → ph_sm f n ≤ ph_sm g n := by
  intro n
  induction n with
  | zero => exact fun _ => Nat.le_refl _
  | succ n ih =>
    intro h
    show ph_sm f n + f n ≤ ph_sm g n + g n
    exact Nat.add_le_add (ih (fun i hi => h i (by omega))) (h n (by omega))
theorem ph_sm_b {f : Nat → Nat} {c : Nat} : ∀ {n : Nat}, (∀ i, i < n → f i ≤ c) → ph_sm f n ≤ n * c := by
  intro n
  induction n with
  | zero => exact fun _ => Nat.zero_le _
  | succ n ih =>
    intro h
    show ph_sm f n + f n ≤ (n + 1) * c
    rw [Nat.succ_mul]
    exact Nat.add_le_add (ih (fun i hi => h i (by omega))) (h n (by omega))
theorem ph_sm_add {f g : Nat → Nat} : ∀ n : Nat, ph_sm (fun i => f i + g i) n = ph_sm f n + ph_sm g n := by
  intro n
  induction n with
  | zero => rfl
  | succ n ih =>
    show ph_sm (fun i => f i + g i) n + (f n + g n) = ph_sm f n + f n + (ph_sm g n + g n)
    rw [ih]
    omega
theorem ph_sm_out {f : Nat → Nat} {a : Nat} : ∀ {n : Nat}, a < n → ph_sm f n = ph_sm (fun r => if r = a then 0 else f r) n + f a := by
  intro n
  induction n with
  | zero => exact fun h => absurd h (by omega)
  | succ n ih =>
    intro h
    show ph_sm f n + f n = ph_sm (fun r => if r = a then 0 else f r) n + (if n = a then 0 else f n) + f a
    by_cases e : n = a
    · rw [if_pos e, e]
      rw [ph_sm_congr (f := f) (g := fun r => if r = a then 0 else f r) (n := a) (fun i hi => (if_neg (by omega)).symm)]
      rfl
    · rw [if_neg e, ih (by omega)]
      omega
/-- what read r adds at site s: on strand σ, with value 0 iff z -/
def ph_g (t v : Nat → Int32) (s M : Nat) (σ z : Bool) (r : Nat) : Nat := if M.testBit r = σ ∧ decide (v (r * 8 + s) = 0) = z then (t (r * 8 + s)).toNatClampNeg else 0
def ph_A (t v : Nat → Int32) (n s M : Nat) (σ z : Bool) : Nat := ph_sm (ph_g t v s M σ z) n
def ph_F (t v : Nat → Int32) (n : Nat) (fo : Bool) (s M : Nat) : Nat :=
  if fo = true then min (ph_A t v n s M false true + ph_A t v n s M true false) (ph_A t v n s M false false + ph_A t v n s M true true)
  else min (ph_A t v n s M false true) (ph_A t v n s M false false) + min (ph_A t v n s M true true) (ph_A t v n s M true false)
def ph_C (t v : Nat → Int32) (n : Nat) (fo : Bool) (k M : Nat) : Nat := ph_sm (fun s => ph_F t v n fo s M) k
def ph_ok (t : Nat → Int32) (n : Nat) : Prop := ∀ j, j < n * 8 → ∃ k, k ≤ 9 ∧ t j = nI k
theorem ph_g_le {t v : Nat → Int32} {n s M r : Nat} {σ z : Bool} (ht : ph_ok t n) (hr : r < n) (hs : s < 8) : ph_g t v s M σ z r ≤ 9 := by
  unfold ph_g
  split
  · obtain ⟨k, h1, h2⟩ := ht (r * 8 + s) (by omega)
    rw [h2, nI_clamp (by omega)]
    exact h1
  · omega
theorem ph_A_le {t v : Nat → Int32} {n s M : Nat} {σ z : Bool} (ht : ph_ok t n) (hn : n ≤ 8) (hs : s < 8) : ph_A t v n s M σ z ≤ 72 := by
  have h : ph_A t v n s M σ z ≤ n * 9 := ph_sm_b (fun i hi => ph_g_le ht hi hs)
  omega
theorem ph_F_le {t v : Nat → Int32} {n s M : Nat} {fo : Bool} (ht : ph_ok t n) (hn : n ≤ 8) (hs : s < 8) : ph_F t v n fo s M ≤ 144 := by
  have h1 := ph_A_le (v := v) (M := M) (σ := false) (z := true) ht hn hs
  have h2 := ph_A_le (v := v) (M := M) (σ := false) (z := false) ht hn hs
  have h3 := ph_A_le (v := v) (M := M) (σ := true) (z := true) ht hn hs
  have h4 := ph_A_le (v := v) (M := M) (σ := true) (z := false) ht hn hs
  unfold ph_F
  split <;> omega
theorem ph_C_le {t v : Nat → Int32} {n k M : Nat} {fo : Bool} (ht : ph_ok t n) (hn : n ≤ 8) (hk : k ≤ 8) : ph_C t v n fo k M ≤ 1152 := by
  have h : ph_C t v n fo k M ≤ k * 144 := ph_sm_b (fun s hs => ph_F_le ht hn (by omega))
  omega
theorem ph_A_dep {t v : Nat → Int32} {n s M M' : Nat} {σ z : Bool} (h : ∀ r, r < n → ¬ t (r * 8 + s) = 0 → M.testBit r = M'.testBit r) : ph_A t v n s M σ z = ph_A t v n s M' σ z := by
  refine ph_sm_congr (fun r hr => ?_)
  unfold ph_g
  by_cases e : t (r * 8 + s) = 0
  · rw [e]
    show (if _ then 0 else 0) = (if _ then 0 else 0)
    rw [ite_self, ite_self]
  · rw [h r hr e]
theorem ph_F_dep {t v : Nat → Int32} {n s M M' : Nat} {fo : Bool} (h : ∀ r, r < n → ¬ t (r * 8 + s) = 0 → M.testBit r = M'.testBit r) : ph_F t v n fo s M = ph_F t v n fo s M' := by
  unfold ph_F
  rw [ph_A_dep h, ph_A_dep h, ph_A_dep h, ph_A_dep h]
theorem ph_C_dep {t v : Nat → Int32} {n k M M' : Nat} {fo : Bool} (h : ∀ s, s < k → ∀ r, r < n → ¬ t (r * 8 + s) = 0 → M.testBit r = M'.testBit r) : ph_C t v n fo k M = ph_C t v n fo k M' :=
  ph_sm_congr (fun s hs => ph_F_dep (h s hs))
theorem ph_A_data {t v t' v' : Nat → Int32} {n s M : Nat} {σ z : Bool} (hs : s < 8) (h : ∀ j, j < n * 8 → t j = t' j ∧ v j = v' j) : ph_A t v n s M σ z = ph_A t' v' n s M σ z := by
  refine ph_sm_congr (fun r hr => ?_)
  unfold ph_g
  rw [(h (r * 8 + s) (by omega)).1, (h (r * 8 + s) (by omega)).2]
theorem ph_F_data {t v t' v' : Nat → Int32} {n s M : Nat} {fo : Bool} (hs : s < 8) (h : ∀ j, j < n * 8 → t j = t' j ∧ v j = v' j) : ph_F t v n fo s M = ph_F t' v' n fo s M := by
  unfold ph_F
  rw [ph_A_data hs h, ph_A_data hs h, ph_A_data hs h, ph_A_data hs h]
theorem ph_C_data {t v t' v' : Nat → Int32} {n k M : Nat} {fo : Bool} (hk : k ≤ 8) (h : ∀ j, j < n * 8 → t j = t' j ∧ v j = v' j) : ph_C t v n fo k M = ph_C t' v' n fo k M :=
  ph_sm_congr (fun s hs => ph_F_data (by omega) h)
end
section
/-! the plain law: least costs, one read more, forced, two equal reads -/
def ph_adm (n M : Nat) : Prop := (∀ i, M.testBit i = true → i < n) ∧ M.testBit 0 = false
def ph_least (t v : Nat → Int32) (n : Nat) (fo : Bool) (l : Nat) : Prop := (∃ M, ph_adm n M ∧ ph_C t v n fo 8 M = l) ∧ ∀ M, ph_adm n M → l ≤ ph_C t v n fo 8 M
theorem ph_least_data {t v t' v' : Nat → Int32} {n l : Nat} {fo : Bool} (h : ∀ j, j < n * 8 → t j = t' j ∧ v j = v' j) (hl : ph_least t v n fo l) : ph_least t' v' n fo l := by
  obtain ⟨⟨M, a, e⟩, b⟩ := hl
  exact ⟨⟨M, a, by rw [← ph_C_data (by omega) h]; exact e⟩, fun M' a' => by rw [← ph_C_data (by omega) h]; exact b M' a'⟩
theorem ph_least_le {t v : Nat → Int32} {n l : Nat} {fo : Bool} (ht : ph_ok t n) (hn : n ≤ 8) (h : ph_least t v n fo l) : l ≤ 1152 := by
  obtain ⟨⟨M, a, e⟩, b⟩ := h
  rw [← e]
  exact ph_C_le ht hn (by omega)
theorem ph_least_0 {t v : Nat → Int32} {fo : Bool} : ph_least t v 0 fo 0 := by
  refine ⟨⟨0, ⟨fun i hi => ?_, Nat.zero_testBit 0⟩, ?_⟩, fun M _ => Nat.zero_le _⟩
  · rw [Nat.zero_testBit] at hi
    exact absurd hi (by decide)
  · cases fo <;> rfl
theorem ph_mono_A {t v : Nat → Int32} {n s M : Nat} {σ z : Bool} : ph_A t v n s M σ z ≤ ph_A t v (n + 1) s M σ z := Nat.le_add_right _ _
theorem ph_mono_F {t v : Nat → Int32} {n s M : Nat} : ph_F t v n false s M ≤ ph_F t v (n + 1) false s M := by
  have h1 := ph_mono_A (t := t) (v := v) (n := n) (s := s) (M := M) (σ := false) (z := true)
  have h2 := ph_mono_A (t := t) (v := v) (n := n) (s := s) (M := M) (σ := false) (z := false)
  have h3 := ph_mono_A (t := t) (v := v) (n := n) (s := s) (M := M) (σ := true) (z := true)
  have h4 := ph_mono_A (t := t) (v := v) (n := n) (s := s) (M := M) (σ := true) (z := false)
  unfold ph_F
  rw [if_neg (by decide), if_neg (by decide)]
  omega
theorem ph_mono {t v : Nat → Int32} {n l l' : Nat} (h : ph_least t v n false l) (h' : ph_least t v (n + 1) false l') : l ≤ l' := by
  obtain ⟨⟨M, a, e⟩, _⟩ := h'
  have g := h.2 (ph_clr M n) ⟨fun i hi => by
    obtain ⟨g1, g2⟩ := ph_clr_t hi
    have := a.1 i g1
    omega, by rw [ph_clr_b, a.2]; rfl⟩
  have e2 : ph_C t v n false 8 (ph_clr M n) = ph_C t v n false 8 M := ph_C_dep (fun s hs r hr _ => ph_clr_n (by omega))
  have e3 : ph_C t v n false 8 M ≤ ph_C t v (n + 1) false 8 M := ph_sm_le (fun s hs => ph_mono_F)
  omega
theorem ph_forced_F {t v : Nat → Int32} {n s M : Nat} : ph_F t v n false s M ≤ ph_F t v n true s M := by
  unfold ph_F
  rw [if_neg (by decide), if_pos rfl]
  omega
theorem ph_forced {t v : Nat → Int32} {n l l' : Nat} (h : ph_least t v n false l) (h' : ph_least t v n true l') : l ≤ l' := by
  obtain ⟨⟨M, a, e⟩, _⟩ := h'
  have g := h.2 M a
  have e3 : ph_C t v n false 8 M ≤ ph_C t v n true 8 M := ph_sm_le (fun s hs => ph_forced_F)
  omega
theorem ph_least_uniq {t v : Nat → Int32} {n l l' : Nat} {fo : Bool} (h : ph_least t v n fo l) (h' : ph_least t v n fo l') : l = l' := by
  obtain ⟨⟨M, a, e⟩, b⟩ := h
  obtain ⟨⟨M', a', e'⟩, b'⟩ := h'
  have g := b M' a'
  have g' := b' M a
  omega
/-! all reads change strands -/
def ph_flip (n M : Nat) : Nat := M ^^^ (2 ^ n - 1)
theorem ph_flip_b (n M i : Nat) : (ph_flip n M).testBit i = (M.testBit i ^^ decide (i < n)) := by
  unfold ph_flip
  rw [Nat.testBit_xor, Nat.testBit_two_pow_sub_one]
theorem ph_flip_A {t v : Nat → Int32} {n s M : Nat} {σ z : Bool} : ph_A t v n s (ph_flip n M) σ z = ph_A t v n s M (!σ) z := by
  refine ph_sm_congr (fun r hr => ?_)
  unfold ph_g
  have e : (ph_flip n M).testBit r = σ ↔ M.testBit r = !σ := by
    rw [ph_flip_b, decide_eq_true hr]
    cases M.testBit r <;> cases σ <;> decide
  simp only [e]
theorem ph_flip_C {t v : Nat → Int32} {n M k : Nat} : ph_C t v n false k (ph_flip n M) = ph_C t v n false k M := by
  refine ph_sm_congr (fun s hs => ?_)
  unfold ph_F
  rw [if_neg (by decide), if_neg (by decide), ph_flip_A, ph_flip_A, ph_flip_A, ph_flip_A]
  show min (ph_A t v n s M true true) (ph_A t v n s M true false) + min (ph_A t v n s M false true) (ph_A t v n s M false false) = _
  omega
/-! two equal reads -/
def ph_R (t v : Nat → Int32) (n s M a b : Nat) (σ z : Bool) : Nat := ph_sm (fun r => if r = b then 0 else if r = a then 0 else ph_g t v s M σ z r) n
theorem ph_A_out {t v : Nat → Int32} {n s M a b : Nat} {σ z : Bool} (hab : a ≠ b) (ha : a < n) (hb : b < n) : ph_A t v n s M σ z = ph_R t v n s M a b σ z + ph_g t v s M σ z b + ph_g t v s M σ z a := by
  have h1 : ph_A t v n s M σ z = ph_sm (fun r => if r = a then 0 else ph_g t v s M σ z r) n + ph_g t v s M σ z a := ph_sm_out ha
  have h2 : ph_sm (fun r => if r = a then 0 else ph_g t v s M σ z r) n = ph_R t v n s M a b σ z + (if b = a then 0 else ph_g t v s M σ z b) := ph_sm_out hb
  rw [h1, h2, if_neg (Ne.symm hab)]
theorem ph_R_dep {t v : Nat → Int32} {n s M M' a b : Nat} {σ z : Bool} (h : ∀ i, i ≠ a → i ≠ b → M.testBit i = M'.testBit i) : ph_R t v n s M a b σ z = ph_R t v n s M' a b σ z := by
  refine ph_sm_congr (fun r hr => ?_)
  by_cases eb : r = b
  · rw [if_pos eb, if_pos eb]
  · by_cases ea : r = a
    · rw [if_neg eb, if_neg eb, if_pos ea, if_pos ea]
    · rw [if_neg eb, if_neg eb, if_neg ea, if_neg ea]
      unfold ph_g
      rw [h r ea eb]
theorem ph_dupF {t v : Nat → Int32} {n s M a b : Nat} (hab : a ≠ b) (ha : a < n) (hb : b < n) (ht : t (a * 8 + s) = t (b * 8 + s)) (hv : v (a * 8 + s) = v (b * 8 + s)) (hne : ¬ M.testBit a = M.testBit b) :
    ph_F t v n false s (ph_clr (ph_clr M a) b) + ph_F t v n false s ((M ||| 2 ^ a) ||| 2 ^ b) ≤ 2 * ph_F t v n false s M := by
  have hba : b ≠ a := Ne.symm hab
  have o : ∀ (N : Nat) (x y : Bool), (∀ i, i ≠ a → i ≠ b → N.testBit i = M.testBit i) → N.testBit a = x → N.testBit b = y → ∀ σ z, ph_A t v n s N σ z = ph_R t v n s M a b σ z + (if y = σ ∧ decide (v (b * 8 + s) = 0) = z then (t (b * 8 + s)).toNatClampNeg else 0) + (if x = σ ∧ decide (v (b * 8 + s) = 0) = z then (t (b * 8 + s)).toNatClampNeg else 0) := by
    intro N x y h hx hy σ z
    rw [ph_A_out hab ha hb, ph_R_dep h]
    unfold ph_g
    rw [ht, hv, hx, hy]
  have o1 := o (ph_clr (ph_clr M a) b) false false (fun i h1 h2 => by rw [ph_clr_n h2, ph_clr_n h1]) (by rw [ph_clr_n hab, ph_clr_s]) ph_clr_s
  have o2 := o ((M ||| 2 ^ a) ||| 2 ^ b) true true (fun i h1 h2 => by rw [ph_add_n h2, ph_add_n h1]) (by rw [ph_add_n hab, ph_add_s]) ph_add_s
  have o3 := o M (M.testBit a) (M.testBit b) (fun i _ _ => rfl) rfl rfl
  unfold ph_F
  rw [if_neg (by decide), if_neg (by decide), if_neg (by decide)]
  simp only [o1, o2, o3]
  generalize ph_R t v n s M a b false true = r0
  generalize ph_R t v n s M a b false false = r1
  generalize ph_R t v n s M a b true true = r2
  generalize ph_R t v n s M a b true false = r3
  generalize (t (b * 8 + s)).toNatClampNeg = k
  generalize decide (v (b * 8 + s) = 0) = zz
  generalize M.testBit a = xa at hne ⊢
  generalize M.testBit b = xb at hne ⊢
  cases xa <;> cases xb <;> cases zz <;> first
    | exact absurd rfl hne
    | (simp only [reduceIte, reduceCtorEq, and_true, true_and, and_false, false_and, and_self, Nat.add_zero, Nat.zero_add]; omega)
theorem ph_dup {t v : Nat → Int32} {n a b : Nat} (hab : a ≠ b) (ha : a < n) (hb : b < n) (h : ∀ s, s < 8 → t (a * 8 + s) = t (b * 8 + s) ∧ v (a * 8 + s) = v (b * 8 + s)) (M : Nat) (hM : ph_adm n M) :
    ∃ M', ph_adm n M' ∧ M'.testBit a = M'.testBit b ∧ ph_C t v n false 8 M' ≤ ph_C t v n false 8 M := by
  by_cases hne : M.testBit a = M.testBit b
  · exact ⟨M, hM, hne, Nat.le_refl _⟩
  · have hs : ph_C t v n false 8 (ph_clr (ph_clr M a) b) + ph_C t v n false 8 ((M ||| 2 ^ a) ||| 2 ^ b) ≤ ph_C t v n false 8 M + ph_C t v n false 8 M := by
      unfold ph_C
      rw [← ph_sm_add, ← ph_sm_add]
      refine ph_sm_le (fun s hs => ?_)
      have g := ph_dupF (M := M) hab ha hb (h s hs).1 (h s hs).2 hne
      omega
    by_cases h1 : ph_C t v n false 8 (ph_clr (ph_clr M a) b) ≤ ph_C t v n false 8 M
    · refine ⟨ph_clr (ph_clr M a) b, ⟨fun i hi => hM.1 i (ph_clr_t (ph_clr_t hi).1).1, ?_⟩, by rw [ph_clr_s, ph_clr_n hab, ph_clr_s], h1⟩
      rw [ph_clr_b, ph_clr_b, hM.2]
      rfl
    · have h2 : ph_C t v n false 8 ((M ||| 2 ^ a) ||| 2 ^ b) ≤ ph_C t v n false 8 M := by omega
      have q : ∀ i, ((M ||| 2 ^ a) ||| 2 ^ b).testBit i = true → i < n := by
        intro i hi
        by_cases eb : i = b
        · omega
        · by_cases ea : i = a
          · omega
          · rw [ph_add_n eb, ph_add_n ea] at hi
            exact hM.1 i hi
      have e : ((M ||| 2 ^ a) ||| 2 ^ b).testBit a = ((M ||| 2 ^ a) ||| 2 ^ b).testBit b := by rw [ph_add_s, ph_add_n hab, ph_add_s]
      cases h0 : ((M ||| 2 ^ a) ||| 2 ^ b).testBit 0 with
      | false => exact ⟨_, ⟨q, h0⟩, e, h2⟩
      | true =>
        refine ⟨ph_flip n ((M ||| 2 ^ a) ||| 2 ^ b), ⟨fun i hi => ?_, ?_⟩, ?_, by rw [ph_flip_C]; exact h2⟩
        · rw [ph_flip_b] at hi
          rcases Nat.lt_or_ge i n with z | z
          · exact z
          · rw [decide_eq_false (by omega), Bool.xor_false] at hi
            exact q i hi
        · rw [ph_flip_b, h0, decide_eq_true (by omega)]
          rfl
        · rw [ph_flip_b, ph_flip_b, e, decide_eq_true ha, decide_eq_true hb]
end
section
/-! the walk: join, endRead, beginRead -/
theorem ph_join {post : St1 → Prop} {rd aw p0 p1 q0 q1 x y : Int32} {t v a3 a4 a5 : Nat → Int32} {m o : Nat} (hm : m < 256) (ho : o < 256) (hx : x = nI m) (hy : y = nI o)
    (H : ∀ a3' a4' a5' : Nat → Int32, (∀ j, j ≠ m → a3' j = a3 j ∧ a4' j = a4 j) → ((¬ a3 m ≤ a3 o ∧ a3' m = a3 o ∧ a4' m = a4 o) ∨ (a3 m ≤ a3 o ∧ a3' m = a3 m ∧ (a4' m = a4 m ∨ (a3 o = a3 m ∧ a4' m = a4 o)))) → post (rd, aw, p0, p1, q0, q1, t, v, a3', a4', a5')) :
    wpX_join post (rd, aw, p0, p1, q0, q1, t, v, a3, a4, a5) x y := by
  subst hx hy
  unfold wpX_join wX_join_96
  dsimp only
  rw [nI_clamp (show m < 2 ^ 31 by omega), nI_clamp (show o < 2 ^ 31 by omega)]
  have im : vp_in (nI m) 256 := vp_in_nI hm (by omega)
  have io : vp_in (nI o) 256 := vp_in_nI ho (by omega)
  refine ⟨io, im, br_c (fun h => ⟨io, im, br_c (fun e => ⟨io, im, br_c (fun g => ⟨im, io, im, nm_e ?_⟩) (fun g => ⟨io, im, nm_e ⟨im, io, im, nm_e ?_⟩⟩)⟩) (fun e => ?_)⟩) (fun h => ⟨io, im, nm_e ⟨io, im, nm_e ⟨io, im, nm_e ?_⟩⟩⟩)⟩
  · exact H _ _ _ (fun j _ => ⟨rfl, rfl⟩) (Or.inr ⟨h, rfl, Or.inl rfl⟩)
  · exact H _ _ _ (fun j hj => ⟨rfl, pk_un hj⟩) (Or.inr ⟨h, rfl, Or.inr ⟨e, pk_us⟩⟩)
  · exact H _ _ _ (fun j _ => ⟨rfl, rfl⟩) (Or.inr ⟨h, rfl, Or.inl rfl⟩)
  · exact H _ _ _ (fun j hj => ⟨pk_un hj, pk_un hj⟩) (Or.inl ⟨h, pk_us, pk_us⟩)
theorem ph_end {post : St1 → Prop} {rd p0 p1 q0 q1 : Int32} {t v a3 a4 a5 : Nat → Int32} {C : Nat → Nat} {D W r : Nat} (hr : r < 8) (hW : W < 256) (hrW : W.testBit r = true) (hC : ∀ M, C M < 1000000) (h : ph_tab C D W a3 a4)
    (H : ∀ a3' a4' a5' : Nat → Int32, ph_tab C D (ph_clr W r) a3' a4' → post (rd, nI (ph_clr W r), p0, p1, q0, q1, t, v, a3', a4', a5')) :
    wpX_endRead post (rd, nI W, p0, p1, q0, q1, t, v, a3, a4, a5) (nI r) := by
  unfold wpX_endRead
  dsimp only
  refine nm_r (ph_shl r hr) (nm_r (ph_clrI hW) ?_)
  refine pk_loop (σ := (Nat → Int32) × (Nat → Int32) × (Nat → Int32)) (fun n i s => wX_endRead_18 post (nI (2 ^ r)) n (nI i) rd (nI (ph_clr W r)) p0 p1 q0 q1 t v s.1 s.2.1 s.2.2)
    (fun i s => ∀ m, (ph_sub m (ph_clr W r) → m < i → ph_row C D (ph_clr W r) m (s.1 m) (s.2.1 m)) ∧ (ph_sub m W → (i ≤ m ∨ m.testBit r = true) → ph_row C D W m (s.1 m) (s.2.1 m)))
    256 0 (a3, a4, a5) (by omega) (fun m => ⟨fun _ z => absurd z (by omega), fun hs _ => h m hs⟩)
    (fun n s hI => pk_le 256 256 (fun _ => H _ _ _ (fun m hm => (hI m).1 hm (ph_subLt hm (ph_clrLt hW)))) (fun z => absurd z (by omega)))
    (fun n i s hi hI hw => pk_le 256 i (fun z => absurd z (by omega)) (fun _ => ek_if (ph_nt hi) (fun hs => ?_) (fun hs => nm_r (nI_1 i) (hw s ?_))))
  · have hir : i.testBit r = false := ph_f (fun z => (ph_clr_t (hs r z)).2 rfl)
    have hiW : ph_sub i W := fun j hj => (ph_clr_t (hs j hj)).1
    have hoW : ph_sub (i ||| 2 ^ r) W := by
      intro j hj
      by_cases e : j = r
      · rw [e]
        exact hrW
      · rw [ph_add_n e] at hj
        exact hiW j hj
    have hio : i ||| 2 ^ r ≠ i := fun e => ph_tf (ph_add_s (M := i) (r := r)) (by rw [e]; exact hir)
    refine ph_join hi (ph_orLt hi hr) rfl (ph_or i (2 ^ r)) (fun a3' a4' a5' hk hj => nm_r (nI_1 i) (hw (a3', a4', a5') (fun m => ⟨fun hm hmi => ?_, fun hm hmi => ?_⟩)))
    · by_cases e : m = i
      · subst e
        exact ph_row_join hir hC ((hI m).2 hiW (Or.inl (Nat.le_refl _))) ((hI (m ||| 2 ^ r)).2 hoW (Or.inr ph_add_s)) hj
      · show ph_row C D (ph_clr W r) m (a3' m) (a4' m)
        rw [(hk m e).1, (hk m e).2]
        exact (hI m).1 hm (by omega)
    · have e : m ≠ i := by
        intro e
        rcases hmi with z | z
        · omega
        · exact ph_tf z (by rw [e]; exact hir)
      show ph_row C D W m (a3' m) (a4' m)
      rw [(hk m e).1, (hk m e).2]
      exact (hI m).2 hm (hmi.imp (fun z => by omega) id)
  · intro m
    refine ⟨fun hm hmi => ?_, fun hm hmi => ?_⟩
    · have e : m ≠ i := fun e => hs (e ▸ hm)
      exact (hI m).1 hm (by omega)
    · refine (hI m).2 hm ?_
      rcases hmi with z | z
      · exact Or.inl (by omega)
      · exact Or.inr z
theorem ph_b46 {post : St1 → Prop} {J : Int32 → (Nat → Int32) → (Nat → Int32) → (Nat → Int32) → (Nat → Int32) → (Nat → Int32) → Prop} {x1 x2 z0 z1 rd aw p0 p1 q0 q1 : Int32} {t v a3 a4 a5 : Nat → Int32} {i o : Nat} (hi : i < 256) (ho : o < 256)
    (h1 : z1 = nI o) (h2 : nI i ||| x2 = nI o) (H : J (nI (i + 1)) t v (upd a3 o z0) (upd a4 o (a4 i ||| x2)) (upd a5 o (a5 i))) :
    wX_beginRead_46 post J x1 x2 (nI i) z0 z1 rd aw p0 p1 q0 q1 t v a3 a4 a5 := by
  subst h1
  unfold wX_beginRead_46
  rw [h2, nI_clamp (show i < 2 ^ 31 by omega), nI_clamp (show o < 2 ^ 31 by omega)]
  have ii : vp_in (nI i) 256 := vp_in_nI hi (by omega)
  have io : vp_in (nI o) 256 := vp_in_nI ho (by omega)
  exact ⟨io, nm_e ⟨ii, io, nm_e ⟨ii, io, nm_e (nm_r (nI_1 i) H)⟩⟩⟩
theorem ph_beg {post : St1 → Prop} {rd p0 p1 q0 q1 : Int32} {t v a3 a4 a5 : Nat → Int32} {C : Nat → Nat} {D W r : Nat} (hr : r < 8) (hW : W < 256) (hWr : W.testBit r = false) (hDr : D.testBit r = false)
    (hC : ∀ M M', (∀ i, i ≠ r → M.testBit i = M'.testBit i) → C M = C M') (h : ph_tab C D W a3 a4)
    (H : ∀ a3' a4' a5' : Nat → Int32, ph_tab C (D ||| 2 ^ r) (W ||| 2 ^ r) a3' a4' → post (rd, nI (W ||| 2 ^ r), p0, p1, q0, q1, t, v, a3', a4', a5')) :
    wpX_beginRead post (rd, nI W, p0, p1, q0, q1, t, v, a3, a4, a5) (nI r) := by
  unfold wpX_beginRead
  dsimp only
  refine nm_r (ph_shl r hr) ?_
  refine pk_loop (σ := (Nat → Int32) × (Nat → Int32) × (Nat → Int32)) (fun n i s => wX_beginRead_6 post (nI r) (nI (2 ^ r)) rd (nI W) p0 p1 q0 q1 n (nI i) t v s.1 s.2.1 s.2.2)
    (fun i s => ∀ m, ph_sub m W → ph_row C D W m (s.1 m) (s.2.1 m) ∧ (m < i → ph_row C (D ||| 2 ^ r) (W ||| 2 ^ r) (m ||| 2 ^ r) (s.1 (m ||| 2 ^ r)) (s.2.1 (m ||| 2 ^ r))))
    256 0 (a3, a4, a5) (by omega) (fun m hm => ⟨h m hm, fun z => absurd z (by omega)⟩)
    (fun n s hI => pk_le 256 256 (fun _ => nm_r (ph_or W (2 ^ r)) (H _ _ _ (fun m hm => ?_))) (fun z => absurd z (by omega)))
    (fun n i s hi hI hw => pk_le 256 i (fun z => absurd z (by omega)) (fun _ => ek_if (ph_nt hi) (fun hs => ?_) (fun hs => nm_r (nI_1 i) (hw s ?_))))
  · cases hb : m.testBit r with
    | true =>
      have hsub : ph_sub (ph_clr m r) W := by
        intro j hj
        obtain ⟨g1, g2⟩ := ph_clr_t hj
        have g := hm j g1
        rw [ph_add_n g2] at g
        exact g
      have g := (hI (ph_clr m r) hsub).2 (ph_subLt hsub hW)
      rw [ph_or_clr hb] at g
      exact g
    | false =>
      refine ph_row_keep hb hDr (hI m (fun j hj => ?_)).1
      have e : j ≠ r := fun e => ph_tf (e ▸ hj) hb
      have g := hm j hj
      rw [ph_add_n e] at g
      exact g
  · have hsr : ∀ m, ph_sub m W → m.testBit r = false := fun m hm => ph_f (fun z => ph_tf (hm r z) hWr)
    have ho : i ||| 2 ^ r < 256 := ph_orLt hi hr
    have key : ∀ z0 : Int32, ph_row C (D ||| 2 ^ r) (W ||| 2 ^ r) (i ||| 2 ^ r) z0 (s.2.1 i ||| nI (2 ^ r)) → wX_beginRead_46 post (wX_beginRead_6 post (nI r) (nI (2 ^ r)) rd (nI W) p0 p1 q0 q1 n) (nI r) (nI (2 ^ r)) (nI i) z0 (nI i ||| nI (2 ^ r)) rd (nI W) p0 p1 q0 q1 t v s.1 s.2.1 s.2.2 := by
      intro z0 hz
      refine ph_b46 hi ho (ph_or i (2 ^ r)) (ph_or i (2 ^ r)) (hw (upd s.1 (i ||| 2 ^ r) z0, upd s.2.1 (i ||| 2 ^ r) (s.2.1 i ||| nI (2 ^ r)), upd s.2.2 (i ||| 2 ^ r) (s.2.2 i)) (fun m hm => ?_))
      have hmo : m ≠ i ||| 2 ^ r := fun e => ph_tf (ph_add_s (M := i) (r := r)) (by rw [← e]; exact hsr m hm)
      refine ⟨?_, fun hmi => ?_⟩
      · show ph_row C D W m (upd s.1 (i ||| 2 ^ r) z0 m) (upd s.2.1 (i ||| 2 ^ r) (s.2.1 i ||| nI (2 ^ r)) m)
        rw [pk_un hmo, pk_un hmo]
        exact (hI m hm).1
      · show ph_row C (D ||| 2 ^ r) (W ||| 2 ^ r) (m ||| 2 ^ r) (upd s.1 (i ||| 2 ^ r) z0 (m ||| 2 ^ r)) (upd s.2.1 (i ||| 2 ^ r) (s.2.1 i ||| nI (2 ^ r)) (m ||| 2 ^ r))
        by_cases e : m = i
        · rw [e, pk_us, pk_us]
          exact hz
        · have hne : m ||| 2 ^ r ≠ i ||| 2 ^ r := fun e2 => e (ph_or_inj (hsr m hm) (hsr i hs) e2)
          rw [pk_un hne, pk_un hne]
          exact (hI m hm).2 (by omega)
    refine pk_eq r 0 (fun z => key 1000000 ?_) (fun z => ⟨vp_in_nI hi (by omega), ?_⟩)
    · subst z
      exact ph_row_beg0
    · rw [nI_clamp (show i < 2 ^ 31 by omega)]
      exact key _ (ph_row_beg z hWr hC (hI i hs).1)
  · intro m hm
    refine ⟨(hI m hm).1, fun hmi => (hI m hm).2 ?_⟩
    have e : m ≠ i := fun e => hs (e ▸ hm)
    omega
end
section
/-! the walk: weighRead, weigh, siteCost (twice printed), addSite -/
theorem ph_small {post : Int32 → Prop} {a b : Nat} (ha : a < 2 ^ 31) (hb : b < 2 ^ 31) (H : post (nI (min a b))) : wpX_smaller post () (nI a) (nI b) := by
  refine pk_le b a (fun z => ?_) (fun z => ?_)
  · rw [show min a b = b by omega] at H
    exact H
  · rw [show min a b = a by omega] at H
    exact H
theorem ph_wr {post : St1 → Prop} {rd aw x y : Int32} {A0 A1 B0 B1 : Nat} {t v a3 a4 a5 : Nat → Int32} {s M r : Nat} (hx : x = nI (r * 8 + s)) (hj : r * 8 + s < 64) (hy : y = nI (if M.testBit r then 1 else 0)) (ht : ∃ k, k ≤ 9 ∧ t (r * 8 + s) = nI k)
    (H : post (rd, aw, nI (A0 + ph_g t v s M false true r), nI (A1 + ph_g t v s M false false r), nI (B0 + ph_g t v s M true true r), nI (B1 + ph_g t v s M true false r), t, v, a3, a4, a5)) :
    wpX_weighRead post (rd, aw, nI A0, nI A1, nI B0, nI B1, t, v, a3, a4, a5) x y := by
  subst hx hy
  unfold wpX_weighRead wX_weighRead_33
  dsimp only
  rw [nI_clamp (show r * 8 + s < 2 ^ 31 by omega)]
  have ii : vp_in (nI (r * 8 + s)) 64 := vp_in_nI hj (by omega)
  obtain ⟨k, hk9, hk⟩ := ht
  have g : ∀ σ z, ph_g t v s M σ z r = if M.testBit r = σ ∧ decide (v (r * 8 + s) = 0) = z then k else 0 := by
    intro σ z
    unfold ph_g
    rw [hk, nI_clamp (by omega)]
  rw [g, g, g, g] at H
  refine ⟨ii, nm_r hk ?_⟩
  cases hM : M.testBit r with
  | false =>
    rw [hM] at H
    refine br_t rfl ⟨ii, br_c (fun hv => ?_) (fun hv => br_t rfl ?_)⟩
    · rw [decide_eq_true hv] at H
      exact nm_r (nI_add A0 k) H
    · rw [decide_eq_false hv] at H
      exact nm_r (nI_add A1 k) H
  | true =>
    rw [hM] at H
    refine br_f (by decide) (br_f (by decide) ⟨ii, br_c (fun hv => ?_) (fun hv => ?_)⟩)
    · rw [decide_eq_true hv] at H
      exact nm_r (nI_add B0 k) H
    · rw [decide_eq_false hv] at H
      exact nm_r (nI_add B1 k) H
theorem ph_weigh {post : St1 → Prop} {aw p0 p1 q0 q1 : Int32} {t v a3 a4 a5 : Nat → Int32} {n s M W : Nat} (hn : n ≤ 8) (hs : s < 8) (hM : M < 256) (hW : W < 256) (ht : ph_ok t n)
    (hz : ∀ r, r < n → W.testBit r = false → t (r * 8 + s) = 0)
    (H : post (nI n, aw, nI (ph_A t v n s M false true), nI (ph_A t v n s M false false), nI (ph_A t v n s M true true), nI (ph_A t v n s M true false), t, v, a3, a4, a5)) :
    wpX_weigh post (nI n, aw, p0, p1, q0, q1, t, v, a3, a4, a5) (nI s) (nI M) (nI W) := by
  unfold wpX_weigh
  dsimp only
  refine pk_loop (σ := Unit) (fun f i _ => wX_weigh_23 post (nI s) (nI M) (nI W) f (nI i) (nI n) aw (nI (ph_A t v i s M false true)) (nI (ph_A t v i s M false false)) (nI (ph_A t v i s M true true)) (nI (ph_A t v i s M true false)) t v a3 a4 a5)
    (fun _ _ => True) n 0 () (by omega) trivial
    (fun f _ _ => pk_le n n (fun _ => H) (fun z => absurd z (by omega)))
    (fun f i _ hi _ hw => pk_le n i (fun z => absurd z (by omega)) (fun _ => ek_if (ph_bit1 hW (by omega)) (fun hb => ?_) (fun hb => nm_r (nI_1 i) ?_)))
  · exact ph_wr (ph_ix i s) (by omega) (ph_bit hM (by omega)) (ht (i * 8 + s) (by omega)) (nm_r (nI_1 i) (hw () trivial))
  · have e : ∀ σ z, ph_A t v (i + 1) s M σ z = ph_A t v i s M σ z := by
      intro σ z
      show ph_A t v i s M σ z + ph_g t v s M σ z i = _
      unfold ph_g
      rw [hz i hi (ph_f hb)]
      show _ + (if _ then 0 else 0) = _
      rw [ite_self]
      rfl
    have g := hw () trivial
    rw [e, e, e, e] at g
    exact g
theorem ph_site {post : Int32 → St1 → Prop} {aw p0 p1 q0 q1 x : Int32} {t v a3 a4 a5 : Nat → Int32} {n s M W : Nat} {fo : Bool} (hx : x = 0 ↔ fo = false) (hn : n ≤ 8) (hs : s < 8) (hM : M < 256) (hW : W < 256) (ht : ph_ok t n)
    (hz : ∀ r, r < n → W.testBit r = false → t (r * 8 + s) = 0)
    (H : ∀ p0' p1' q0' q1' : Int32, post (nI (ph_F t v n fo s M)) (nI n, aw, p0', p1', q0', q1', t, v, a3, a4, a5)) :
    wpX_siteCost post (nI n, aw, p0, p1, q0, q1, t, v, a3, a4, a5) (nI s) (nI M) (nI W) x := by
  unfold wpX_siteCost
  dsimp only
  refine ph_weigh hn hs hM hW ht hz ?_
  have h1 := ph_A_le (v := v) (M := M) (σ := false) (z := true) ht hn hs
  have h2 := ph_A_le (v := v) (M := M) (σ := false) (z := false) ht hn hs
  have h3 := ph_A_le (v := v) (M := M) (σ := true) (z := true) ht hn hs
  have h4 := ph_A_le (v := v) (M := M) (σ := true) (z := false) ht hn hs
  unfold ph_F at H
  refine ek_if hx (fun e => ?_) (fun e => ?_)
  · rw [if_neg (by rw [e]; decide), ← nI_add] at H
    exact ph_small (by omega) (by omega) (ph_small (by omega) (by omega) (H _ _ _ _))
  · have e' : fo = true := by
      cases fo
      · exact absurd rfl e
      · rfl
    rw [if_pos e'] at H
    show wpX_smaller _ () (nI _ + nI _) (nI _ + nI _)
    rw [nI_add, nI_add]
    exact ph_small (by omega) (by omega) (H _ _ _ _)
theorem ph_wr2 {post : St1 → Prop} {rd aw x y : Int32} {A0 A1 B0 B1 : Nat} {t v a3 a4 a5 : Nat → Int32} {s M r : Nat} (hx : x = nI (r * 8 + s)) (hj : r * 8 + s < 64) (hy : y = nI (if M.testBit r then 1 else 0)) (ht : ∃ k, k ≤ 9 ∧ t (r * 8 + s) = nI k)
    (H : post (rd, aw, nI (A0 + ph_g t v s M false true r), nI (A1 + ph_g t v s M false false r), nI (B0 + ph_g t v s M true true r), nI (B1 + ph_g t v s M true false r), t, v, a3, a4, a5)) :
    wpX_weighRead_2 post (rd, aw, nI A0, nI A1, nI B0, nI B1, t, v, a3, a4, a5) x y := by
  subst hx hy
  unfold wpX_weighRead_2 wX_weighRead_2_33
  dsimp only
  rw [nI_clamp (show r * 8 + s < 2 ^ 31 by omega)]
  have ii : vp_in (nI (r * 8 + s)) 64 := vp_in_nI hj (by omega)
  obtain ⟨k, hk9, hk⟩ := ht
  have g : ∀ σ z, ph_g t v s M σ z r = if M.testBit r = σ ∧ decide (v (r * 8 + s) = 0) = z then k else 0 := by
    intro σ z
    unfold ph_g
    rw [hk, nI_clamp (by omega)]
  rw [g, g, g, g] at H
  refine ⟨ii, nm_r hk ?_⟩
  cases hM : M.testBit r with
  | false =>
    rw [hM] at H
    refine br_t rfl ⟨ii, br_c (fun hv => ?_) (fun hv => br_t rfl ?_)⟩
    · rw [decide_eq_true hv] at H
      exact nm_r (nI_add A0 k) H
    · rw [decide_eq_false hv] at H
      exact nm_r (nI_add A1 k) H
  | true =>
    rw [hM] at H
    refine br_f (by decide) (br_f (by decide) ⟨ii, br_c (fun hv => ?_) (fun hv => ?_)⟩)
    · rw [decide_eq_true hv] at H
      exact nm_r (nI_add B0 k) H
    · rw [decide_eq_false hv] at H
      exact nm_r (nI_add B1 k) H
theorem ph_weigh2 {post : St1 → Prop} {aw p0 p1 q0 q1 : Int32} {t v a3 a4 a5 : Nat → Int32} {n s M W : Nat} (hn : n ≤ 8) (hs : s < 8) (hM : M < 256) (hW : W < 256) (ht : ph_ok t n)
    (hz : ∀ r, r < n → W.testBit r = false → t (r * 8 + s) = 0)
    (H : post (nI n, aw, nI (ph_A t v n s M false true), nI (ph_A t v n s M false false), nI (ph_A t v n s M true true), nI (ph_A t v n s M true false), t, v, a3, a4, a5)) :
    wpX_weigh_2 post (nI n, aw, p0, p1, q0, q1, t, v, a3, a4, a5) (nI s) (nI M) (nI W) := by
  unfold wpX_weigh_2
  dsimp only
  refine pk_loop (σ := Unit) (fun f i _ => wX_weigh_2_23 post (nI s) (nI M) (nI W) f (nI i) (nI n) aw (nI (ph_A t v i s M false true)) (nI (ph_A t v i s M false false)) (nI (ph_A t v i s M true true)) (nI (ph_A t v i s M true false)) t v a3 a4 a5)
    (fun _ _ => True) n 0 () (by omega) trivial
    (fun f _ _ => pk_le n n (fun _ => H) (fun z => absurd z (by omega)))
    (fun f i _ hi _ hw => pk_le n i (fun z => absurd z (by omega)) (fun _ => ek_if (ph_bit1 hW (by omega)) (fun hb => ?_) (fun hb => nm_r (nI_1 i) ?_)))
  · exact ph_wr2 (ph_ix i s) (by omega) (ph_bit hM (by omega)) (ht (i * 8 + s) (by omega)) (nm_r (nI_1 i) (hw () trivial))
  · have e : ∀ σ z, ph_A t v (i + 1) s M σ z = ph_A t v i s M σ z := by
      intro σ z
      show ph_A t v i s M σ z + ph_g t v s M σ z i = _
      unfold ph_g
      rw [hz i hi (ph_f hb)]
      show _ + (if _ then 0 else 0) = _
      rw [ite_self]
      rfl
    have g := hw () trivial
    rw [e, e, e, e] at g
    exact g
theorem ph_site2 {post : Int32 → St1 → Prop} {aw p0 p1 q0 q1 x : Int32} {t v a3 a4 a5 : Nat → Int32} {n s M W : Nat} {fo : Bool} (hx : x = 0 ↔ fo = false) (hn : n ≤ 8) (hs : s < 8) (hM : M < 256) (hW : W < 256) (ht : ph_ok t n)
    (hz : ∀ r, r < n → W.testBit r = false → t (r * 8 + s) = 0)
    (H : ∀ p0' p1' q0' q1' : Int32, post (nI (ph_F t v n fo s M)) (nI n, aw, p0', p1', q0', q1', t, v, a3, a4, a5)) :
    wpX_siteCost_2 post (nI n, aw, p0, p1, q0, q1, t, v, a3, a4, a5) (nI s) (nI M) (nI W) x := by
  unfold wpX_siteCost_2
  dsimp only
  refine ph_weigh2 hn hs hM hW ht hz ?_
  have h1 := ph_A_le (v := v) (M := M) (σ := false) (z := true) ht hn hs
  have h2 := ph_A_le (v := v) (M := M) (σ := false) (z := false) ht hn hs
  have h3 := ph_A_le (v := v) (M := M) (σ := true) (z := true) ht hn hs
  have h4 := ph_A_le (v := v) (M := M) (σ := true) (z := false) ht hn hs
  unfold ph_F at H
  refine ek_if hx (fun e => ?_) (fun e => ?_)
  · rw [if_neg (by rw [e]; decide), ← nI_add] at H
    exact ph_small (by omega) (by omega) (ph_small (by omega) (by omega) (H _ _ _ _))
  · have e' : fo = true := by
      cases fo
      · exact absurd rfl e
      · rfl
    rw [if_pos e'] at H
    show wpX_smaller _ () (nI _ + nI _) (nI _ + nI _)
    rw [nI_add, nI_add]
    exact ph_small (by omega) (by omega) (H _ _ _ _)
theorem ph_addS {post : St1 → Prop} {p0 p1 q0 q1 x : Int32} {t v a3 a4 a5 : Nat → Int32} {n s D W : Nat} {fo : Bool} (hx : x = 0 ↔ fo = false) (hn : n ≤ 8) (hs : s < 8) (hW : W < 256) (ht : ph_ok t n)
    (hz : ∀ r, r < n → W.testBit r = false → t (r * 8 + s) = 0) (h : ph_tab (ph_C t v n fo s) D W a3 a4)
    (H : ∀ (p0' p1' q0' q1' : Int32) (a3' : Nat → Int32), ph_tab (ph_C t v n fo (s + 1)) D W a3' a4 → post (nI n, nI W, p0', p1', q0', q1', t, v, a3', a4, a5)) :
    wpX_addSite post (nI n, nI W, p0, p1, q0, q1, t, v, a3, a4, a5) (nI s) x := by
  unfold wpX_addSite
  dsimp only
  refine pk_loop (σ := Int32 × Int32 × Int32 × Int32 × (Nat → Int32)) (fun f i u => wX_addSite_2 post (nI s) x f (nI i) (nI n) (nI W) u.1 u.2.1 u.2.2.1 u.2.2.2.1 t v u.2.2.2.2 a4 a5)
    (fun i u => ∀ m, ph_sub m W → (m < i → ph_row (ph_C t v n fo (s + 1)) D W m (u.2.2.2.2 m) (a4 m)) ∧ (i ≤ m → ph_row (ph_C t v n fo s) D W m (u.2.2.2.2 m) (a4 m)))
    256 0 (p0, p1, q0, q1, a3) (by omega) (fun m hm => ⟨fun z => absurd z (by omega), fun _ => h m hm⟩)
    (fun f u hI => pk_le 256 256 (fun _ => H _ _ _ _ _ (fun m hm => (hI m hm).1 (ph_subLt hm hW))) (fun z => absurd z (by omega)))
    (fun f i u hi hI hw => pk_le 256 i (fun z => absurd z (by omega)) (fun _ => ek_if (ph_nt hi) (fun hs => ?_) (fun hs => nm_r (nI_1 i) (hw u (fun m hm => ?_)))))
  · have ii : vp_in (nI i) 256 := vp_in_nI hi (by omega)
    have hrow := (hI i hs).2 (Nat.le_refl _)
    have hf : ∀ M, ph_mok D W i M → ph_C t v n fo (s + 1) M = ph_C t v n fo s M + ph_F t v n fo s i := by
      intro M hM
      show ph_C t v n fo s M + ph_F t v n fo s M = _
      rw [ph_F_dep (M := M) (M' := i) (fun r hr hne => ?_)]
      refine hM.2.1 r ?_
      cases hb : W.testBit r with
      | true => rfl
      | false => exact absurd (hz r hr hb) hne
    rw [nI_clamp (show i < 2 ^ 31 by omega)]
    cases h0 : i.testBit 0 with
    | true =>
      refine ⟨ii, br_t (by rw [hrow.1 h0]; exact nI_le (Nat.le_refl _) (by omega)) (nm_r (nI_1 i) (hw u (fun m hm => ⟨fun z => ?_, fun z => (hI m hm).2 (by omega)⟩)))⟩
      by_cases e : m = i
      · rw [e]
        exact ph_row_add0 hrow h0
      · exact (hI m hm).1 (by omega)
    | false =>
      obtain ⟨M, k, e1, e2, e3⟩ := hrow.2 h0
      have hle := ph_C_le (v := v) (M := M) (fo := fo) ht hn (show s ≤ 8 by omega)
      refine ⟨ii, br_f (by rw [e1]; exact nI_ge (b := 1000000) (by omega) (by omega)) ⟨ii, ph_site hx hn (by omega) hi hW ht hz (fun p0' p1' q0' q1' => ⟨ii, nm_e (nm_r (nI_1 i) (hw (p0', p1', q0', q1', upd u.2.2.2.2 i (u.2.2.2.2 i + nI (ph_F t v n fo s i))) (fun m hm => ?_)))⟩)⟩⟩
      by_cases e : m = i
      · refine ⟨fun _ => ?_, fun z => absurd z (by omega)⟩
        show ph_row _ D W m (upd u.2.2.2.2 i (u.2.2.2.2 i + nI (ph_F t v n fo s i)) m) (a4 m)
        rw [e, pk_us]
        exact ph_row_add hf hrow h0
      · show (m < i + 1 → ph_row _ D W m (upd u.2.2.2.2 i (u.2.2.2.2 i + nI (ph_F t v n fo s i)) m) (a4 m)) ∧ (i + 1 ≤ m → ph_row _ D W m (upd u.2.2.2.2 i (u.2.2.2.2 i + nI (ph_F t v n fo s i)) m) (a4 m))
        rw [pk_un e]
        exact ⟨fun z => (hI m hm).1 (by omega), fun z => (hI m hm).2 (by omega)⟩
  · have e : m ≠ i := fun e => hs (e ▸ hm)
    exact ⟨fun z => (hI m hm).1 (by omega), fun z => (hI m hm).2 (by omega)⟩
end
section
/-! the walk: firstSite, lastSite -/
theorem ph_first {post : Int32 → Prop} {rd aw p0 p1 q0 q1 : Int32} {t v a3 a4 a5 : Nat → Int32} {r k : Nat} (hr : r < 8) (hk : k ≤ 8) (h1 : ∀ s, s < k → t (r * 8 + s) = 0) (h2 : k < 8 → ¬ t (r * 8 + k) = 0) (H : post (nI k)) :
    wpX_firstSite post (rd, aw, p0, p1, q0, q1, t, v, a3, a4, a5) (nI r) := by
  unfold wpX_firstSite
  dsimp only
  have ii : ∀ i, i < 8 → vp_in (nI r * 8 + nI i) 64 := fun i hi => by
    rw [ph_ix]
    exact vp_in_nI (by omega) (by omega)
  have ic : ∀ i, i < 8 → (nI r * 8 + nI i).toNatClampNeg = r * 8 + i := fun i hi => by
    rw [ph_ix]
    exact nI_clamp (by omega)
  exact pk_loop (σ := Unit) (fun n i _ => wX_firstSite_2 post (nI r) rd aw p0 p1 q0 q1 t v a3 a4 a5 n (nI i)) (fun _ _ => True) k 0 () (by omega) trivial
    (fun n _ _ => pk_le 8 k (fun _ => H) (fun z => ⟨ii k z, br_f (by rw [ic k z]; exact h2 z) H⟩))
    (fun n i _ hi _ hw => pk_le 8 i (fun z => absurd z (by omega)) (fun z => ⟨ii i z, br_t (by rw [ic i z]; exact h1 i hi) (nm_r (nI_1 i) (hw () trivial))⟩))
theorem ph_last {post : Int32 → Prop} {rd aw p0 p1 q0 q1 : Int32} {t v a3 a4 a5 : Nat → Int32} {r k : Nat} (hr : r < 8) (hk : k ≤ 8) (h1 : ∀ s, k ≤ s → s < 8 → t (r * 8 + s) = 0) (h2 : 0 < k → ¬ t (r * 8 + (k - 1)) = 0) (H : post (nI k + (-1))) :
    wpX_lastSite post (rd, aw, p0, p1, q0, q1, t, v, a3, a4, a5) (nI r) := by
  unfold wpX_lastSite
  dsimp only
  have im : ∀ i, 0 < i → nI i + (-1) = nI (i - 1) := fun i hi => by
    have g := pk_m1 (i - 1)
    rw [show i - 1 + 1 = i by omega] at g
    exact g
  have ii : ∀ i, 0 < i → i ≤ 8 → vp_in (nI r * 8 + (nI i + (-1))) 64 := fun i hi h8 => by
    rw [im i hi, ph_ix]
    exact vp_in_nI (by omega) (by omega)
  have ic : ∀ i, 0 < i → i ≤ 8 → (nI r * 8 + (nI i + (-1))).toNatClampNeg = r * 8 + (i - 1) := fun i hi h8 => by
    rw [im i hi, ph_ix]
    exact nI_clamp (by omega)
  have ip : ∀ i, 0 < i → i ≤ 8 → ¬ nI i + (-1) < 0 := fun i hi h8 => by
    rw [im i hi]
    exact nI_pos (by omega)
  have L := pk_loop (σ := Unit) (fun n i _ => wX_lastSite_3 post (nI r) rd aw p0 p1 q0 q1 t v a3 a4 a5 n (nI (8 - i) + (-1))) (fun _ _ => True) (8 - k) 0 () (by omega) trivial
    (fun n _ _ => by
      show wX_lastSite_3 post (nI r) rd aw p0 p1 q0 q1 t v a3 a4 a5 (n + 1) (nI (8 - (8 - k)) + (-1))
      rw [show 8 - (8 - k) = k by omega]
      by_cases hk0 : k = 0
      · subst hk0
        exact br_t (by decide) H
      · exact br_f (ip k (by omega) hk) ⟨ii k (by omega) hk, br_f (by rw [ic k (by omega) hk]; exact h2 (by omega)) H⟩)
    (fun n i _ hi _ hw => br_f (ip (8 - i) (by omega) (by omega)) ⟨ii (8 - i) (by omega) (by omega), br_t (by rw [ic (8 - i) (by omega) (by omega)]; exact h1 (8 - i - 1) (by omega) (by omega)) (nm_r (by rw [im (8 - i) (by omega)]; exact congrArg (fun z => nI z + (-1)) (show 8 - i - 1 = 8 - (i + 1) by omega)) (hw () trivial))⟩)
  exact L
theorem ph_fex (t : Nat → Int32) (r : Nat) : ∃ k, k ≤ 8 ∧ (∀ s, s < k → t (r * 8 + s) = 0) ∧ (k < 8 → ¬ t (r * 8 + k) = 0) := by
  have h : ∀ m, ∃ k, k ≤ m ∧ (∀ s, s < k → t (r * 8 + s) = 0) ∧ (k < m → ¬ t (r * 8 + k) = 0) := by
    intro m
    induction m with
    | zero => exact ⟨0, Nat.le_refl 0, fun s hs => absurd hs (by omega), fun z => absurd z (by omega)⟩
    | succ m ih =>
      obtain ⟨k, h1, h2, h3⟩ := ih
      by_cases hk : k < m
      · exact ⟨k, by omega, h2, fun _ => h3 hk⟩
      · by_cases e : t (r * 8 + k) = 0
        · refine ⟨k + 1, by omega, fun s hs => ?_, fun z => absurd z (by omega)⟩
          by_cases es : s = k
          · rw [es]
            exact e
          · exact h2 s (by omega)
        · exact ⟨k, by omega, h2, fun _ => e⟩
  exact h 8
theorem ph_lex (t : Nat → Int32) (r : Nat) : ∃ k, k ≤ 8 ∧ (∀ s, k ≤ s → s < 8 → t (r * 8 + s) = 0) ∧ (0 < k → ¬ t (r * 8 + (k - 1)) = 0) := by
  have h : ∀ m, m ≤ 8 → ∃ k, k ≤ 8 ∧ 8 - m ≤ k ∧ (∀ s, k ≤ s → s < 8 → t (r * 8 + s) = 0) ∧ (8 - m < k → ¬ t (r * 8 + (k - 1)) = 0) := by
    intro m
    induction m with
    | zero => exact fun _ => ⟨8, Nat.le_refl 8, by omega, fun s h1 h2 => absurd h2 (by omega), fun z => absurd z (by omega)⟩
    | succ m ih =>
      intro hm
      obtain ⟨k, h0, h1, h2, h3⟩ := ih (by omega)
      by_cases hk : 8 - m < k
      · exact ⟨k, h0, by omega, h2, fun _ => h3 hk⟩
      · by_cases e : t (r * 8 + (k - 1)) = 0
        · refine ⟨k - 1, by omega, by omega, fun s hs h8 => ?_, fun z => absurd z (by omega)⟩
          by_cases es : s = k - 1
          · rw [es]
            exact e
          · exact h2 s (by omega) h8
        · exact ⟨k, h0, by omega, h2, fun _ => e⟩
  obtain ⟨k, h0, h1, h2, h3⟩ := h 8 (Nat.le_refl 8)
  exact ⟨k, h0, h2, fun z => h3 (by omega)⟩
noncomputable def ph_fs (t : Nat → Int32) (r : Nat) : Nat := Classical.choose (ph_fex t r)
noncomputable def ph_ls (t : Nat → Int32) (r : Nat) : Nat := Classical.choose (ph_lex t r)
theorem ph_fs_p (t : Nat → Int32) (r : Nat) : ph_fs t r ≤ 8 ∧ (∀ s, s < ph_fs t r → t (r * 8 + s) = 0) ∧ (ph_fs t r < 8 → ¬ t (r * 8 + ph_fs t r) = 0) := Classical.choose_spec (ph_fex t r)
theorem ph_ls_p (t : Nat → Int32) (r : Nat) : ph_ls t r ≤ 8 ∧ (∀ s, ph_ls t r ≤ s → s < 8 → t (r * 8 + s) = 0) ∧ (0 < ph_ls t r → ¬ t (r * 8 + (ph_ls t r - 1)) = 0) := Classical.choose_spec (ph_lex t r)
theorem ph_fl {t : Nat → Int32} {r : Nat} (h : ph_fs t r < 8) : ph_fs t r < ph_ls t r := by
  rcases Nat.lt_or_ge (ph_fs t r) (ph_ls t r) with z | z
  · exact z
  · exact absurd ((ph_ls_p t r).2.1 _ z h) ((ph_fs_p t r).2.2 h)
theorem ph_lf {t : Nat → Int32} {r s : Nat} (h : ph_ls t r = s + 1) : ph_fs t r ≤ s := by
  rcases Nat.lt_or_ge s (ph_fs t r) with z | z
  · refine absurd ((ph_fs_p t r).2.1 _ z) ?_
    have g := (ph_ls_p t r).2.2 (by omega)
    rw [h] at g
    exact g
  · exact z
theorem ph_lsI : ∀ k, k < 9 → ∀ s, s < 8 → (nI k + (-1) = nI s ↔ k = s + 1) := by decide +kernel
end
section
/-! the walk: solve. PD: reads begun, PW: reads at work -/
def ph_J (C : Nat → Nat) (PD PW : Nat → Prop) (aw : Int32) (a3 a4 : Nat → Int32) : Prop :=
  ∃ D W : Nat, (∀ r, D.testBit r = true ↔ PD r) ∧ (∀ r, W.testBit r = true ↔ PW r) ∧ aw = nI W ∧ ph_tab C D W a3 a4
theorem ph_J_congr {C : Nat → Nat} {PD PW PD' PW' : Nat → Prop} {aw : Int32} {a3 a4 : Nat → Int32} (hD : ∀ r, PD r ↔ PD' r) (hW : ∀ r, PW r ↔ PW' r) (h : ph_J C PD PW aw a3 a4) : ph_J C PD' PW' aw a3 a4 := by
  obtain ⟨D, W, h1, h2, h3, h4⟩ := h
  exact ⟨D, W, fun r => (h1 r).trans (hD r), fun r => (h2 r).trans (hW r), h3, h4⟩
theorem ph_J_lt {W : Nat} {PW : Nat → Prop} (hlt : ∀ i, PW i → i < 8) (h : ∀ r, W.testBit r = true ↔ PW r) : W < 256 := ph_lt (fun i hi => hlt i ((h i).mp hi))
theorem ph_J_b1 {C : Nat → Nat} {PD PW : Nat → Prop} {aw : Int32} {a3 a4 : Nat → Int32} {r : Nat} (hr : r < 8) (hlt : ∀ i, PW i → i < 8) (h : ph_J C PD PW aw a3 a4) : (aw >>> (nI r &&& 31)) &&& 1 = 1 ↔ PW r := by
  obtain ⟨D, W, h1, h2, h3, h4⟩ := h
  rw [h3, ph_bit1 (ph_J_lt hlt h2) hr]
  exact h2 r
theorem ph_J_b0 {C : Nat → Nat} {PD PW : Nat → Prop} {aw : Int32} {a3 a4 : Nat → Int32} {r : Nat} (hr : r < 8) (hlt : ∀ i, PW i → i < 8) (h : ph_J C PD PW aw a3 a4) : (aw >>> (nI r &&& 31)) &&& 1 = 0 ↔ ¬ PW r := by
  obtain ⟨D, W, h1, h2, h3, h4⟩ := h
  rw [h3, ph_bit0 (ph_J_lt hlt h2) hr, ← h2 r]
  cases W.testBit r <;> decide
theorem ph_J_end {post : St1 → Prop} {rd aw p0 p1 q0 q1 : Int32} {t v a3 a4 a5 : Nat → Int32} {C : Nat → Nat} {PD PW : Nat → Prop} {r : Nat} (PW' : Nat → Prop) (hr : r < 8) (hlt : ∀ i, PW i → i < 8) (hrW : PW r) (hC : ∀ M, C M < 1000000)
    (hW' : ∀ i, PW' i ↔ PW i ∧ i ≠ r) (h : ph_J C PD PW aw a3 a4)
    (H : ∀ (aw' : Int32) (a3' a4' a5' : Nat → Int32), ph_J C PD PW' aw' a3' a4' → post (rd, aw', p0, p1, q0, q1, t, v, a3', a4', a5')) :
    wpX_endRead post (rd, aw, p0, p1, q0, q1, t, v, a3, a4, a5) (nI r) := by
  obtain ⟨D, W, h1, h2, h3, h4⟩ := h
  rw [h3]
  refine ph_end hr (ph_J_lt hlt h2) ((h2 r).mpr hrW) hC h4 (fun a3' a4' a5' h' => H _ _ _ _ ⟨D, ph_clr W r, h1, fun i => ?_, rfl, h'⟩)
  rw [hW' i, ← h2 i]
  exact ⟨fun z => ph_clr_t z, fun z => ph_clr_m z.1 z.2⟩
theorem ph_J_beg {post : St1 → Prop} {rd aw p0 p1 q0 q1 : Int32} {t v a3 a4 a5 : Nat → Int32} {C : Nat → Nat} {PD PW : Nat → Prop} {r : Nat} (PD' PW' : Nat → Prop) (hr : r < 8) (hlt : ∀ i, PW i → i < 8) (hWr : ¬ PW r) (hDr : ¬ PD r)
    (hC : ∀ M M', (∀ i, i ≠ r → M.testBit i = M'.testBit i) → C M = C M') (hD' : ∀ i, PD' i ↔ PD i ∨ i = r) (hW' : ∀ i, PW' i ↔ PW i ∨ i = r) (h : ph_J C PD PW aw a3 a4)
    (H : ∀ (aw' : Int32) (a3' a4' a5' : Nat → Int32), ph_J C PD' PW' aw' a3' a4' → post (rd, aw', p0, p1, q0, q1, t, v, a3', a4', a5')) :
    wpX_beginRead post (rd, aw, p0, p1, q0, q1, t, v, a3, a4, a5) (nI r) := by
  obtain ⟨D, W, h1, h2, h3, h4⟩ := h
  rw [h3]
  have ad : ∀ (E i : Nat), (E ||| 2 ^ r).testBit i = true ↔ E.testBit i = true ∨ i = r := by
    intro E i
    rw [ph_add_b, Bool.or_eq_true, decide_eq_true_iff]
  refine ph_beg hr (ph_J_lt hlt h2) (ph_f (fun z => hWr ((h2 r).mp z))) (ph_f (fun z => hDr ((h1 r).mp z))) hC h4 (fun a3' a4' a5' h' => H _ _ _ _ ⟨D ||| 2 ^ r, W ||| 2 ^ r, fun i => ?_, fun i => ?_, rfl, h'⟩)
  · rw [ad, hD' i, h1 i]
  · rw [ad, hW' i, h2 i]
theorem ph_s189 {post : St1 → Prop} {aw p0 p1 q0 q1 : Int32} {t v a3 a4 a5 : Nat → Int32} {C : Nat → Nat} {n K : Nat} {PD PW : Nat → Prop} (hn : n ≤ 8) (hK : K < 256) (hC : ∀ M, C M < 1000000) (hP : ∀ i, PW i → i < n) (hKP : ∀ i, i < n → K.testBit i = true → PW i)
    (h : ph_J C PD PW aw a3 a4)
    (H : ∀ (aw' : Int32) (a3' a4' a5' : Nat → Int32), ph_J C PD (fun r => r < n ∧ K.testBit r = true) aw' a3' a4' → post (nI n, aw', p0, p1, q0, q1, t, v, a3', a4', a5')) :
    ∃ fu, wX_solve_189 post (nI K) fu 0 (nI n) aw p0 p1 q0 q1 t v a3 a4 a5 := by
  refine pk_loop (σ := Int32 × (Nat → Int32) × (Nat → Int32) × (Nat → Int32)) (fun f i s => wX_solve_189 post (nI K) f (nI i) (nI n) s.1 p0 p1 q0 q1 t v s.2.1 s.2.2.1 s.2.2.2)
    (fun i s => ph_J C PD (fun r => PW r ∧ (K.testBit r = true ∨ ¬ r < i)) s.1 s.2.1 s.2.2.1)
    n 0 (aw, a3, a4, a5) (by omega) (ph_J_congr (fun _ => Iff.rfl) (fun r => ⟨fun z => ⟨z, Or.inr (by omega)⟩, fun z => z.1⟩) h)
    (fun f s hI => pk_le n n (fun _ => H _ _ _ _ (ph_J_congr (fun _ => Iff.rfl) (fun r => ?_) hI)) (fun z => absurd z (by omega)))
    (fun f i s hi hI hw => pk_le n i (fun z => absurd z (by omega)) (fun _ => ek_if (ph_bit0 hK (by omega)) (fun hk => ek_if (ph_J_b1 (by omega) (fun r hr => Nat.lt_of_lt_of_le (hP r hr.1) hn) hI) (fun hb => ?_) (fun hb => nm_r (nI_1 i) (hw s ?_))) (fun hk => nm_r (nI_1 i) (hw s ?_))))
  · refine ⟨fun z => ⟨hP r z.1, z.2.resolve_right (fun g => g (hP r z.1))⟩, fun z => ⟨hKP r z.1 z.2, Or.inl z.2⟩⟩
  · refine ph_J_end (fun r => PW r ∧ (K.testBit r = true ∨ ¬ r < i + 1)) (by omega) (fun r hr => Nat.lt_of_lt_of_le (hP r hr.1) hn) hb hC (fun r => ?_) hI (fun aw' a3' a4' a5' h' => nm_r (nI_1 i) (hw (aw', a3', a4', a5') h'))
    refine ⟨fun z => ⟨⟨z.1, z.2.imp id (fun g => by omega)⟩, fun e => ?_⟩, fun z => ⟨z.1.1, z.1.2.imp id (fun g => by have := z.2; omega)⟩⟩
    rcases z.2 with g | g
    · exact ph_tf g (by rw [e]; exact hk)
    · omega
  · refine ph_J_congr (fun _ => Iff.rfl) (fun r => ⟨fun z => ⟨z.1, ?_⟩, fun z => ⟨z.1, z.2.imp id (fun g => by omega)⟩⟩) hI
    by_cases e : r = i
    · exact absurd (e ▸ z) hb
    · exact z.2.imp id (fun g => by omega)
  · refine ph_J_congr (fun _ => Iff.rfl) (fun r => ⟨fun z => ⟨z.1, ?_⟩, fun z => ⟨z.1, z.2.imp id (fun g => by omega)⟩⟩) hI
    by_cases e : r = i
    · refine Or.inl ?_
      rw [e]
      cases hb : K.testBit i with
      | true => rfl
      | false => exact absurd hb hk
    · exact z.2.imp id (fun g => by omega)
theorem ph_s137 {post : St1 → Prop} {JJ : Int32 → Int32 → Int32 → Int32 → Int32 → Int32 → Int32 → (Nat → Int32) → (Nat → Int32) → (Nat → Int32) → (Nat → Int32) → (Nat → Int32) → Prop} {aw p0 p1 q0 q1 x2 : Int32} {t v a3 a4 a5 : Nat → Int32} {C : Nat → Nat} {n K s : Nat} {PD : Nat → Prop} (hn : n ≤ 8) (hs : s < 8) (hK : K < 256) (hC : ∀ M, C M < 1000000)
    (h : ph_J C PD (fun r => r < n ∧ (K.testBit r = true ∨ ph_fs t r = 8 ∨ (ph_fs t r ≤ s ∧ s < ph_ls t r))) aw a3 a4)
    (H : ∀ (aw' : Int32) (a3' a4' a5' : Nat → Int32), ph_J C PD (fun r => r < n ∧ (K.testBit r = true ∨ ph_fs t r = 8 ∨ (ph_fs t r < s + 1 ∧ s + 1 < ph_ls t r))) aw' a3' a4' → JJ (nI (s + 1)) (nI n) aw' p0 p1 q0 q1 t v a3' a4' a5') :
    ∃ fu, wX_solve_137 post JJ (nI K) x2 (nI s) fu 0 (nI n) aw p0 p1 q0 q1 t v a3 a4 a5 := by
  refine pk_loop (σ := Int32 × (Nat → Int32) × (Nat → Int32) × (Nat → Int32)) (fun f i s' => wX_solve_137 post JJ (nI K) x2 (nI s) f (nI i) (nI n) s'.1 p0 p1 q0 q1 t v s'.2.1 s'.2.2.1 s'.2.2.2)
    (fun i s' => ph_J C PD (fun r => r < n ∧ (K.testBit r = true ∨ ph_fs t r = 8 ∨ (ph_fs t r ≤ s ∧ s < ph_ls t r ∧ ¬ (ph_ls t r = s + 1 ∧ r < i)))) s'.1 s'.2.1 s'.2.2.1)
    n 0 (aw, a3, a4, a5) (by omega) (ph_J_congr (fun _ => Iff.rfl) (fun r => ?_) h)
    (fun f s' hI => pk_le n n (fun _ => nm_r (nI_1 s) (H _ _ _ _ (ph_J_congr (fun _ => Iff.rfl) (fun r => ?_) hI))) (fun z => absurd z (by omega)))
    (fun f i s' hi hI hw => pk_le n i (fun z => absurd z (by omega)) (fun _ => ph_last (k := ph_ls t i) (by omega) (ph_ls_p t i).1 (ph_ls_p t i).2.1 (ph_ls_p t i).2.2 (ek_if (ph_lsI (ph_ls t i) (by have := (ph_ls_p t i).1; omega) s hs) (fun hl => ek_if (ph_bit0 hK (by omega)) (fun hk => ?_) (fun hk => nm_r (nI_1 i) (hw s' ?_))) (fun hl => nm_r (nI_1 i) (hw s' ?_)))))
  · refine and_congr_right (fun hr => or_congr Iff.rfl (or_congr Iff.rfl ?_))
    omega
  · refine and_congr_right (fun hr => or_congr Iff.rfl (or_congr Iff.rfl ?_))
    omega
  · have hf := ph_lf hl
    refine ph_J_end (fun r => r < n ∧ (K.testBit r = true ∨ ph_fs t r = 8 ∨ (ph_fs t r ≤ s ∧ s < ph_ls t r ∧ ¬ (ph_ls t r = s + 1 ∧ r < i + 1)))) (by omega) (fun r hr => by omega) ⟨hi, Or.inr (Or.inr (by omega))⟩ hC (fun r => ?_) hI (fun aw' a3' a4' a5' h' => nm_r (nI_1 i) (hw (aw', a3', a4', a5') h'))
    by_cases e : r = i
    · rw [e, hk]
      refine ⟨fun z => ?_, fun z => absurd rfl z.2⟩
      rcases z.2 with g | g
      · exact absurd g (by decide)
      · omega
    · refine ⟨fun z => ⟨⟨z.1, z.2.imp id (fun g => by omega)⟩, e⟩, fun z => ⟨z.1.1, z.1.2.imp id (fun g => by omega)⟩⟩
  · have hk' : K.testBit i = true := by
      cases hb : K.testBit i with
      | true => rfl
      | false => exact absurd hb hk
    refine ph_J_congr (fun _ => Iff.rfl) (fun r => and_congr_right (fun hr => ?_)) hI
    by_cases e : r = i
    · rw [e]
      exact ⟨fun _ => Or.inl hk', fun _ => Or.inl hk'⟩
    · refine or_congr Iff.rfl ?_
      omega
  · refine ph_J_congr (fun _ => Iff.rfl) (fun r => and_congr_right (fun hr => or_congr Iff.rfl ?_)) hI
    by_cases e : r = i
    · rw [e]
      omega
    · omega
theorem ph_s81 {post : St1 → Prop} {JJ : Int32 → Int32 → Int32 → Int32 → Int32 → Int32 → Int32 → (Nat → Int32) → (Nat → Int32) → (Nat → Int32) → (Nat → Int32) → (Nat → Int32) → Prop} {aw p0 p1 q0 q1 x2 : Int32} {t v a3 a4 a5 : Nat → Int32} {n K s : Nat} {fo : Bool} (hx : x2 = 0 ↔ fo = false) (hn : n ≤ 8) (hs : s < 8) (hK : K < 256) (ht : ph_ok t n)
    (h : ph_J (ph_C t v n fo s) (fun r => r < n ∧ (K.testBit r = true ∨ ph_fs t r = 8 ∨ ph_fs t r < s)) (fun r => r < n ∧ (K.testBit r = true ∨ ph_fs t r = 8 ∨ (ph_fs t r < s ∧ s < ph_ls t r))) aw a3 a4)
    (H : ∀ (aw' p0' p1' q0' q1' : Int32) (a3' a4' a5' : Nat → Int32), ph_J (ph_C t v n fo (s + 1)) (fun r => r < n ∧ (K.testBit r = true ∨ ph_fs t r = 8 ∨ ph_fs t r < s + 1)) (fun r => r < n ∧ (K.testBit r = true ∨ ph_fs t r = 8 ∨ (ph_fs t r < s + 1 ∧ s + 1 < ph_ls t r))) aw' a3' a4' → JJ (nI (s + 1)) (nI n) aw' p0' p1' q0' q1' t v a3' a4' a5') :
    ∃ fu, wX_solve_81 post JJ (nI K) x2 (nI s) fu 0 (nI n) aw p0 p1 q0 q1 t v a3 a4 a5 := by
  refine pk_loop (σ := Int32 × (Nat → Int32) × (Nat → Int32) × (Nat → Int32)) (fun f i s' => wX_solve_81 post JJ (nI K) x2 (nI s) f (nI i) (nI n) s'.1 p0 p1 q0 q1 t v s'.2.1 s'.2.2.1 s'.2.2.2)
    (fun i s' => ph_J (ph_C t v n fo s) (fun r => r < n ∧ (K.testBit r = true ∨ ph_fs t r = 8 ∨ ph_fs t r < s ∨ (ph_fs t r = s ∧ r < i))) (fun r => r < n ∧ (K.testBit r = true ∨ ph_fs t r = 8 ∨ (ph_fs t r < s ∧ s < ph_ls t r) ∨ (ph_fs t r = s ∧ r < i))) s'.1 s'.2.1 s'.2.2.1)
    n 0 (aw, a3, a4, a5) (by omega) (ph_J_congr (fun r => and_congr_right (fun hr => or_congr Iff.rfl (or_congr Iff.rfl ?_))) (fun r => and_congr_right (fun hr => or_congr Iff.rfl (or_congr Iff.rfl ?_))) h)
    (fun f s' hI => pk_le n n (fun _ => ?_) (fun z => absurd z (by omega)))
    (fun f i s' hi hI hw => pk_le n i (fun z => absurd z (by omega)) (fun _ => ph_first (k := ph_fs t i) (by omega) (ph_fs_p t i).1 (ph_fs_p t i).2.1 (ph_fs_p t i).2.2 (pk_eq (ph_fs t i) s (fun hl => ek_if (ph_J_b0 (by omega) (fun r hr => by omega) hI) (fun hk => ?_) (fun hk => nm_r (nI_1 i) (hw s' ?_))) (fun hl => nm_r (nI_1 i) (hw s' ?_)) rfl rfl (by have := (ph_fs_p t i).1; omega) (by omega))))
  · omega
  · omega
  · obtain ⟨D, W, h1, h2, h3, h4⟩ := hI
    have hW : W < 256 := ph_J_lt (fun r hr => by omega) h2
    rw [h3]
    refine ph_addS hx hn hs hW ht (fun r hr hb => ?_) h4 (fun p0' p1' q0' q1' a3' h' => ph_s137 hn hs hK (fun M => Nat.lt_of_le_of_lt (ph_C_le ht hn (by omega)) (by omega)) ⟨D, W, h1, fun r => (h2 r).trans (and_congr_right (fun hr => or_congr Iff.rfl (or_congr Iff.rfl ?_))), rfl, h'⟩ (fun aw' a3' a4' a5' hj => H _ _ _ _ _ _ _ _ (ph_J_congr (fun r => and_congr_right (fun hr => or_congr Iff.rfl (or_congr Iff.rfl ?_))) (fun _ => Iff.rfl) hj)))
    · have hnW : ¬ (r < n ∧ (K.testBit r = true ∨ ph_fs t r = 8 ∨ (ph_fs t r < s ∧ s < ph_ls t r) ∨ (ph_fs t r = s ∧ r < n))) := fun z => ph_tf ((h2 r).mpr z) hb
      rcases Nat.lt_or_ge s (ph_fs t r) with z | z
      · exact (ph_fs_p t r).2.1 s z
      · rcases Nat.lt_or_ge s (ph_ls t r) with y | y
        · exact absurd ⟨hr, Or.inr (Or.inr (by omega))⟩ hnW
        · exact (ph_ls_p t r).2.1 s y hs
    · have hfl := ph_fl (t := t) (r := r)
      omega
    · omega
  · refine ph_J_beg (fun r => r < n ∧ (K.testBit r = true ∨ ph_fs t r = 8 ∨ ph_fs t r < s ∨ (ph_fs t r = s ∧ r < i + 1))) (fun r => r < n ∧ (K.testBit r = true ∨ ph_fs t r = 8 ∨ (ph_fs t r < s ∧ s < ph_ls t r) ∨ (ph_fs t r = s ∧ r < i + 1))) (by omega) (fun r hr => by omega) hk (fun z => hk ⟨z.1, z.2.imp id (fun g => by omega)⟩)
      (fun M M' hM => ph_C_dep (fun s2 hs2 r hr hne => hM r (fun e => hne (by rw [e]; exact (ph_fs_p t i).2.1 s2 (by omega))))) (fun r => ?_) (fun r => ?_) hI (fun aw' a3' a4' a5' h' => nm_r (nI_1 i) (hw (aw', a3', a4', a5') h'))
    · by_cases e : r = i
      · refine ⟨fun _ => Or.inr e, fun _ => ⟨by omega, Or.inr (by rw [e]; omega)⟩⟩
      · refine ⟨fun z => Or.inl ⟨z.1, z.2.imp id (fun g => by omega)⟩, fun z => ?_⟩
        rcases z with g | g
        · exact ⟨g.1, g.2.imp id (fun g => by omega)⟩
        · exact absurd g e
    · by_cases e : r = i
      · refine ⟨fun _ => Or.inr e, fun _ => ⟨by omega, Or.inr (by rw [e]; omega)⟩⟩
      · refine ⟨fun z => Or.inl ⟨z.1, z.2.imp id (fun g => by omega)⟩, fun z => ?_⟩
        rcases z with g | g
        · exact ⟨g.1, g.2.imp id (fun g => by omega)⟩
        · exact absurd g e
  · have hk' : K.testBit i = true := by
      rcases Classical.not_not.mp hk with ⟨_, g | g⟩
      · exact g
      · omega
    refine ph_J_congr (fun r => and_congr_right (fun hr => ?_)) (fun r => and_congr_right (fun hr => ?_)) hI
    · by_cases e : r = i
      · rw [e]
        exact ⟨fun _ => Or.inl hk', fun _ => Or.inl hk'⟩
      · refine or_congr Iff.rfl ?_
        omega
    · by_cases e : r = i
      · rw [e]
        exact ⟨fun _ => Or.inl hk', fun _ => Or.inl hk'⟩
      · refine or_congr Iff.rfl ?_
        omega
  · refine ph_J_congr (fun r => and_congr_right (fun hr => or_congr Iff.rfl ?_)) (fun r => and_congr_right (fun hr => or_congr Iff.rfl ?_)) hI
    · by_cases e : r = i
      · rw [e]
        omega
      · omega
    · by_cases e : r = i
      · rw [e]
        omega
      · omega
end
section
/-! the walk: solve, whole; what stands in the table then -/
theorem ph_s72 {post : St1 → Prop} {aw p0 p1 q0 q1 x2 : Int32} {t v a3 a4 a5 : Nat → Int32} {n K : Nat} {fo : Bool} (hx : x2 = 0 ↔ fo = false) (hn : n ≤ 8) (hK : K < 256) (ht : ph_ok t n)
    (h : ph_J (ph_C t v n fo 0) (fun r => r < n ∧ (K.testBit r = true ∨ ph_fs t r = 8)) (fun r => r < n ∧ (K.testBit r = true ∨ ph_fs t r = 8)) aw a3 a4)
    (H : ∀ (aw' p0' p1' q0' q1' : Int32) (a3' a4' a5' : Nat → Int32), ph_J (ph_C t v n fo 8) (fun r => r < n) (fun r => r < n ∧ K.testBit r = true) aw' a3' a4' → post (nI n, aw', p0', p1', q0', q1', t, v, a3', a4', a5')) :
    ∃ fu, wX_solve_72 post (nI K) x2 fu 0 (nI n) aw p0 p1 q0 q1 t v a3 a4 a5 := by
  refine pk_loop (σ := Int32 × Int32 × Int32 × Int32 × Int32 × (Nat → Int32) × (Nat → Int32) × (Nat → Int32)) (fun f i s => wX_solve_72 post (nI K) x2 f (nI i) (nI n) s.1 s.2.1 s.2.2.1 s.2.2.2.1 s.2.2.2.2.1 t v s.2.2.2.2.2.1 s.2.2.2.2.2.2.1 s.2.2.2.2.2.2.2)
    (fun i s => ph_J (ph_C t v n fo i) (fun r => r < n ∧ (K.testBit r = true ∨ ph_fs t r = 8 ∨ ph_fs t r < i)) (fun r => r < n ∧ (K.testBit r = true ∨ ph_fs t r = 8 ∨ (ph_fs t r < i ∧ i < ph_ls t r))) s.1 s.2.2.2.2.2.1 s.2.2.2.2.2.2.1)
    8 0 (aw, p0, p1, q0, q1, a3, a4, a5) (by omega) (ph_J_congr (fun r => and_congr_right (fun hr => or_congr Iff.rfl ?_)) (fun r => and_congr_right (fun hr => or_congr Iff.rfl ?_)) h)
    (fun f s hI => pk_le 8 8 (fun _ => ph_s189 hn hK (fun M => Nat.lt_of_le_of_lt (ph_C_le ht hn (by omega)) (by omega)) (fun i hi => hi.1) (fun i hi hk => ⟨hi, Or.inl hk⟩) hI (fun aw' a3' a4' a5' h' => H _ _ _ _ _ _ _ _ (ph_J_congr (fun r => ?_) (fun _ => Iff.rfl) h'))) (fun z => absurd z (by omega)))
    (fun f i s hi hI hw => pk_le 8 i (fun z => absurd z (by omega)) (fun _ => ph_s81 hx hn hi hK ht hI (fun aw' p0' p1' q0' q1' a3' a4' a5' h' => hw (aw', p0', p1', q0', q1', a3', a4', a5') h')))
  · omega
  · omega
  · refine ⟨fun z => z.1, fun z => ⟨z, Or.inr ?_⟩⟩
    have := (ph_fs_p t r).1
    omega
theorem ph_s28 {post : St1 → Prop} {aw p0 p1 q0 q1 x2 : Int32} {t v a3 a4 a5 : Nat → Int32} {n K : Nat} {fo : Bool} (hx : x2 = 0 ↔ fo = false) (hn : n ≤ 8) (hK : K < 256) (ht : ph_ok t n)
    (h : ph_J (ph_C t v n fo 0) (fun _ => False) (fun _ => False) aw a3 a4)
    (H : ∀ (aw' p0' p1' q0' q1' : Int32) (a3' a4' a5' : Nat → Int32), ph_J (ph_C t v n fo 8) (fun r => r < n) (fun r => r < n ∧ K.testBit r = true) aw' a3' a4' → post (nI n, aw', p0', p1', q0', q1', t, v, a3', a4', a5')) :
    ∃ fu, wX_solve_28 post (nI K) x2 fu 0 (nI n) aw p0 p1 q0 q1 t v a3 a4 a5 := by
  refine pk_loop (σ := Int32 × (Nat → Int32) × (Nat → Int32) × (Nat → Int32)) (fun f i s => wX_solve_28 post (nI K) x2 f (nI i) (nI n) s.1 p0 p1 q0 q1 t v s.2.1 s.2.2.1 s.2.2.2)
    (fun i s => ph_J (ph_C t v n fo 0) (fun r => r < i ∧ (K.testBit r = true ∨ ph_fs t r = 8)) (fun r => r < i ∧ (K.testBit r = true ∨ ph_fs t r = 8)) s.1 s.2.1 s.2.2.1)
    n 0 (aw, a3, a4, a5) (by omega) (ph_J_congr (fun r => ⟨fun z => z.elim, fun z => absurd z.1 (by omega)⟩) (fun r => ⟨fun z => z.elim, fun z => absurd z.1 (by omega)⟩) h)
    (fun f s hI => pk_le n n (fun _ => ph_s72 hx hn hK ht hI H) (fun z => absurd z (by omega)))
    (fun f i s hi hI hw => pk_le n i (fun z => absurd z (by omega)) (fun _ => ph_first (k := ph_fs t i) (by omega) (ph_fs_p t i).1 (ph_fs_p t i).2.1 (ph_fs_p t i).2.2 ?_))
  have go : (K.testBit i = true ∨ ph_fs t i = 8) → wX_solve_59 post (wX_solve_28 post (nI K) x2 f) (nI K) x2 (nI i) (nI n) s.1 p0 p1 q0 q1 t v s.2.1 s.2.2.1 s.2.2.2 := by
    intro hc
    have hq : ∀ r, (r < i + 1 ∧ (K.testBit r = true ∨ ph_fs t r = 8)) ↔ ((r < i ∧ (K.testBit r = true ∨ ph_fs t r = 8)) ∨ r = i) := by
      intro r
      by_cases e : r = i
      · rw [e]
        exact ⟨fun _ => Or.inr rfl, fun _ => ⟨by omega, hc⟩⟩
      · refine ⟨fun z => Or.inl ⟨by omega, z.2⟩, fun z => ?_⟩
        rcases z with g | g
        · exact ⟨by omega, g.2⟩
        · exact absurd g e
    exact ph_J_beg (fun r => r < i + 1 ∧ (K.testBit r = true ∨ ph_fs t r = 8)) (fun r => r < i + 1 ∧ (K.testBit r = true ∨ ph_fs t r = 8)) (by omega) (fun r hr => by omega) (fun z => absurd z.1 (by omega)) (fun z => absurd z.1 (by omega))
      (fun M M' hM => rfl) hq hq hI (fun aw' a3' a4' a5' h' => nm_r (nI_1 i) (hw (aw', a3', a4', a5') h'))
  refine ek_if (ph_bit1 hK (by omega)) (fun hk => go (Or.inl hk)) (fun hk => pk_eq (ph_fs t i) 8 (fun e => go (Or.inr e)) (fun e => nm_r (nI_1 i) (hw s ?_)) rfl rfl (by have := (ph_fs_p t i).1; omega) (by omega))
  have hq : ∀ r, (r < i ∧ (K.testBit r = true ∨ ph_fs t r = 8)) ↔ (r < i + 1 ∧ (K.testBit r = true ∨ ph_fs t r = 8)) := by
    intro r
    refine ⟨fun z => ⟨by omega, z.2⟩, fun z => ⟨?_, z.2⟩⟩
    by_cases er : r = i
    · rcases z.2 with g | g
      · exact absurd (er ▸ g) hk
      · exact absurd (er ▸ g) e
    · omega
  exact ph_J_congr hq hq hI
/-- what solve leaves: the reads of K stand in the table -/
def ph_fin (t v : Nat → Int32) (n : Nat) (fo : Bool) (K : Nat) (a3 a4 : Nat → Int32) : Prop :=
  ∀ m, ph_sub m K → (m.testBit 0 = true → a3 m = nI 1000000) ∧ (m.testBit 0 = false → ∃ M, ph_adm n M ∧ (∀ i, K.testBit i = true → M.testBit i = m.testBit i) ∧ a3 m = nI (ph_C t v n fo 8 M) ∧ a4 m = nI M ∧ ∀ M', ph_adm n M' → (∀ i, K.testBit i = true → M'.testBit i = m.testBit i) → ph_C t v n fo 8 M ≤ ph_C t v n fo 8 M')
theorem ph_solve {post : St1 → Prop} {aw p0 p1 q0 q1 x2 : Int32} {t v a3 a4 a5 : Nat → Int32} {n K : Nat} {fo : Bool} (hx : x2 = 0 ↔ fo = false) (hn : n ≤ 8) (hK : ∀ i, K.testBit i = true → i < n) (ht : ph_ok t n)
    (H : ∀ (aw' p0' p1' q0' q1' : Int32) (a3' a4' a5' : Nat → Int32), ph_fin t v n fo K a3' a4' → post (nI n, aw', p0', p1', q0', q1', t, v, a3', a4', a5')) :
    wpX_solve post (nI n, aw, p0, p1, q0, q1, t, v, a3, a4, a5) (nI K) x2 := by
  unfold wpX_solve
  dsimp only
  refine nm_e (nm_e (nm_e (ph_s28 hx hn (ph_lt (fun i hi => Nat.lt_of_lt_of_le (hK i hi) hn)) ht ⟨0, 0, fun r => ?_, fun r => ?_, rfl, fun m hm => ?_⟩ (fun aw' p0' p1' q0' q1' a3' a4' a5' h' => H _ _ _ _ _ _ _ _ (fun m hm => ?_)))))
  · rw [Nat.zero_testBit]
    exact ⟨fun z => absurd z (by decide), fun z => z.elim⟩
  · rw [Nat.zero_testBit]
    exact ⟨fun z => absurd z (by decide), fun z => z.elim⟩
  · have hb : ∀ i, m.testBit i = false := fun i => ph_f (fun z => absurd (hm i z) (by rw [Nat.zero_testBit]; decide))
    have e : m = 0 := Nat.eq_of_testBit_eq (fun i => by rw [hb i, Nat.zero_testBit])
    rw [e, pk_us, pk_us]
    refine ⟨fun z => absurd z (by rw [Nat.zero_testBit]; decide), fun _ => ⟨0, ⟨fun i hi => hi, fun i hi => rfl, Nat.zero_testBit 0⟩, rfl, rfl, fun M' _ => Nat.le_refl _⟩⟩
  · obtain ⟨D, W, h1, h2, h3, h4⟩ := h'
    have hWK : ∀ i, W.testBit i = true ↔ K.testBit i = true := fun i => (h2 i).trans ⟨fun z => z.2, fun z => ⟨hK i z, z⟩⟩
    have g := h4 m (fun i hi => (hWK i).mpr (hm i hi))
    refine ⟨g.1, fun h0 => ?_⟩
    obtain ⟨M, ⟨k1, k2, k3⟩, e1, e2, e3⟩ := g.2 h0
    exact ⟨M, ⟨fun i hi => (h1 i).mp (k1 i hi), k3⟩, fun i hi => k2 i ((hWK i).mpr hi), e1, e2, fun M' hM' hM2 => e3 M' ⟨fun i hi => (h1 i).mpr (hM'.1 i hi), fun i hi => hM2 i ((hWK i).mp hi), hM'.2⟩⟩
theorem ph_fin0 {t v a3 a4 : Nat → Int32} {n : Nat} {fo : Bool} (h : ph_fin t v n fo 0 a3 a4) : ∃ M, ph_adm n M ∧ a3 0 = nI (ph_C t v n fo 8 M) ∧ a4 0 = nI M ∧ ∀ M', ph_adm n M' → ph_C t v n fo 8 M ≤ ph_C t v n fo 8 M' := by
  obtain ⟨M, h1, _, h3, h4, h5⟩ := (h 0 (fun i hi => hi)).2 (Nat.zero_testBit 0)
  exact ⟨M, h1, h3, h4, fun M' hM' => h5 M' hM' (fun i hi => absurd hi (by rw [Nat.zero_testBit]; decide))⟩
theorem ph_wleast {post : Int32 → St1 → Prop} {aw p0 p1 q0 q1 : Int32} {t v a3 a4 a5 : Nat → Int32} {n : Nat} (hn : n ≤ 8) (ht : ph_ok t n)
    (H : ∀ (l : Nat) (aw' p0' p1' q0' q1' : Int32) (a3' a4' a5' : Nat → Int32), ph_least t v n false l → post (nI l) (nI n, aw', p0', p1', q0', q1', t, v, a3', a4', a5')) :
    wpX_least post (nI n, aw, p0, p1, q0, q1, t, v, a3, a4, a5) := by
  unfold wpX_least
  dsimp only
  refine ph_solve (K := 0) (fo := false) ⟨fun _ => rfl, fun _ => rfl⟩ hn (fun i hi => absurd hi (by rw [Nat.zero_testBit]; decide)) ht (fun aw' p0' p1' q0' q1' a3' a4' a5' h' => ?_)
  obtain ⟨M, h1, h3, h4, h5⟩ := ph_fin0 h'
  show post (a3' 0) _
  rw [h3]
  exact H _ _ _ _ _ _ _ _ _ ⟨⟨M, h1, rfl⟩, h5⟩
theorem ph_wforced {post : Int32 → St1 → Prop} {aw p0 p1 q0 q1 : Int32} {t v a3 a4 a5 : Nat → Int32} {n : Nat} (hn : n ≤ 8) (ht : ph_ok t n)
    (H : ∀ (l : Nat) (aw' p0' p1' q0' q1' : Int32) (a3' a4' a5' : Nat → Int32), ph_least t v n true l → post (nI l) (nI n, aw', p0', p1', q0', q1', t, v, a3', a4', a5')) :
    wpX_leastForced post (nI n, aw, p0, p1, q0, q1, t, v, a3, a4, a5) := by
  unfold wpX_leastForced
  dsimp only
  refine ph_solve (K := 0) (fo := true) ⟨fun z => absurd z (by decide), fun z => absurd z (by decide)⟩ hn (fun i hi => absurd hi (by rw [Nat.zero_testBit]; decide)) ht (fun aw' p0' p1' q0' q1' a3' a4' a5' h' => ?_)
  obtain ⟨M, h1, h3, h4, h5⟩ := ph_fin0 h'
  show post (a3' 0) _
  rw [h3]
  exact H _ _ _ _ _ _ _ _ _ ⟨⟨M, h1, rfl⟩, h5⟩
theorem ph_wsorting {post : Int32 → St1 → Prop} {aw p0 p1 q0 q1 : Int32} {t v a3 a4 a5 : Nat → Int32} {n : Nat} (hn : n ≤ 8) (ht : ph_ok t n)
    (H : ∀ (M : Nat) (aw' p0' p1' q0' q1' : Int32) (a3' a4' a5' : Nat → Int32), ph_adm n M → ph_least t v n false (ph_C t v n false 8 M) → post (nI M) (nI n, aw', p0', p1', q0', q1', t, v, a3', a4', a5')) :
    wpX_sorting post (nI n, aw, p0, p1, q0, q1, t, v, a3, a4, a5) := by
  unfold wpX_sorting
  dsimp only
  refine ph_solve (K := 0) (fo := false) ⟨fun _ => rfl, fun _ => rfl⟩ hn (fun i hi => absurd hi (by rw [Nat.zero_testBit]; decide)) ht (fun aw' p0' p1' q0' q1' a3' a4' a5' h' => ?_)
  obtain ⟨M, h1, h3, h4, h5⟩ := ph_fin0 h'
  show post (a4' 0) _
  rw [h4]
  exact H _ _ _ _ _ _ _ _ _ h1 ⟨⟨M, h1, rfl⟩, h5⟩
end
section
/-! the walk: costOf, leastWith, read, say, drop -/
theorem ph_nf {b : Bool} (h : ¬ b = false) : b = true := by
  cases b
  · exact absurd rfl h
  · rfl
def ph_cut (n M : Nat) : Nat := (M &&& (2 ^ n - 1)) &&& (2 ^ 32 - (1 + 1))
theorem ph_m2' : (-2 : Int32) = nI (2 ^ 32 - (1 + 1)) := by decide
theorem ph_cut_b {n M i : Nat} (hn : n ≤ 8) : (ph_cut n M).testBit i = true ↔ M.testBit i = true ∧ i < n ∧ i ≠ 0 := by
  unfold ph_cut
  have h1 : Nat.testBit 1 i = decide (0 = i) := Nat.testBit_two_pow (n := 0)
  rw [Nat.testBit_and, Nat.testBit_and, Nat.testBit_two_pow_sub_one, Nat.testBit_two_pow_sub_succ (by decide), h1]
  simp only [Bool.and_eq_true, decide_eq_true_eq, Bool.not_eq_true', decide_eq_false_iff_not]
  constructor
  · intro z
    exact ⟨z.1.1, z.1.2, fun e => z.2.2 e.symm⟩
  · intro z
    exact ⟨⟨z.1, z.2.1⟩, by omega, fun e => z.2.2 e.symm⟩
theorem ph_cut_adm {n M : Nat} (hn : n ≤ 8) : ph_adm n (ph_cut n M) :=
  ⟨fun i hi => ((ph_cut_b hn).mp hi).2.1, ph_f (fun z => ((ph_cut_b hn).mp z).2.2 rfl)⟩
theorem ph_cut_id {n M : Nat} (hn : n ≤ 8) (h : ph_adm n M) : ph_cut n M = M := by
  apply Nat.eq_of_testBit_eq
  intro i
  rw [Bool.eq_iff_iff, ph_cut_b hn]
  exact ⟨fun z => z.1, fun z => ⟨z, h.1 i z, fun e => ph_tf (e ▸ z) h.2⟩⟩
theorem ph_costOf {post : Int32 → St1 → Prop} {aw p0 p1 q0 q1 : Int32} {t v a3 a4 a5 : Nat → Int32} {n M : Nat} (hn : n ≤ 8) (ht : ph_ok t n)
    (H : ∀ p0' p1' q0' q1' : Int32, post (nI (ph_C t v n false 8 (ph_cut n M))) (nI n, aw, p0', p1', q0', q1', t, v, a3, a4, a5)) :
    wpX_costOf post (nI n, aw, p0, p1, q0, q1, t, v, a3, a4, a5) (nI M) := by
  unfold wpX_costOf
  dsimp only
  have hc : ph_cut n M < 256 := ph_lt (fun i hi => by have := ((ph_cut_b hn).mp hi).2.1; omega)
  have hw : 2 ^ n - 1 < 256 := ph_lt (fun i hi => by
    rw [Nat.testBit_two_pow_sub_one] at hi
    have := of_decide_eq_true hi
    omega)
  refine nm_r (ph_every n (by omega)) (nm_r (e' := nI (ph_cut n M)) (by rw [ph_m2', ph_and, ph_and]; rfl) ?_)
  exact pk_loop (σ := Int32 × Int32 × Int32 × Int32) (fun f i s => wX_costOf_22 post (nI (2 ^ n - 1)) (nI (ph_cut n M)) f (nI (ph_C t v n false i (ph_cut n M))) (nI i) (nI n) aw s.1 s.2.1 s.2.2.1 s.2.2.2 t v a3 a4 a5) (fun _ _ => True) 8 0 (p0, p1, q0, q1) (by omega) trivial
    (fun f s _ => pk_le 8 8 (fun _ => H _ _ _ _) (fun z => absurd z (by omega)))
    (fun f i s hi _ hw' => pk_le 8 i (fun z => absurd z (by omega)) (fun _ => ph_site2 (fo := false) ⟨fun _ => rfl, fun _ => rfl⟩ hn hi hc hw ht (fun r hr hb => absurd hb (by rw [Nat.testBit_two_pow_sub_one, decide_eq_true hr]; decide))
      (fun p0' p1' q0' q1' => nm_r (nI_add _ _) (nm_r (nI_1 i) (hw' (p0', p1', q0', q1') trivial)))))
def ph_with (t v : Nat → Int32) (n a b : Nat) (ap : Bool) (l : Nat) : Prop :=
  l ≤ 1000000 ∧ (l = 1000000 ∨ ∃ M, ph_adm n M ∧ (M.testBit a ^^ M.testBit b) = ap ∧ ph_C t v n false 8 M = l) ∧ ∀ M, ph_adm n M → (M.testBit a ^^ M.testBit b) = ap → l ≤ ph_C t v n false 8 M
theorem ph_noRead {post : Int32 → Prop} {aw p0 p1 q0 q1 : Int32} {t v a3 a4 a5 : Nat → Int32} {n a : Nat} (hn : n ≤ 8) (ha : a < n) (H : post 0) : wpX_noRead post (nI n, aw, p0, p1, q0, q1, t, v, a3, a4, a5) (nI a) := by
  unfold wpX_noRead
  dsimp only
  exact br_f (nI_pos (by omega)) (br_t (nI_lt ha (by omega)) H)
theorem ph_lw96 {post : Int32 → St1 → Prop} {JJ : Int32 → Int32 → Prop} {rd aw p0 p1 q0 q1 x : Int32} {t v a3 a4 a5 : Nat → Int32} {a b i : Nat} {d ap : Bool} (hi : i < 256)
    (H1 : ph_sub i (2 ^ a ||| 2 ^ b) → d = ap → (x ≤ a3 i → JJ x (nI (i + 1))) ∧ (¬ x ≤ a3 i → JJ (a3 i) (nI (i + 1)))) (H2 : ¬ (ph_sub i (2 ^ a ||| 2 ^ b) ∧ d = ap) → JJ x (nI (i + 1))) :
    wX_leastWith_96 post JJ (nI (if ap then 1 else 0)) (nI (2 ^ a)) (nI (2 ^ b)) x (nI i) (nI (if d then 1 else 0)) rd aw p0 p1 q0 q1 t v a3 a4 a5 := by
  unfold wX_leastWith_96
  rw [ph_or, nI_clamp (show i < 2 ^ 31 by omega)]
  have ii : vp_in (nI i) 256 := vp_in_nI hi (by omega)
  have hd : nI (if d then 1 else 0) = nI (if ap then 1 else 0) ↔ d = ap := by
    cases d <;> cases ap <;> decide
  refine ek_if (ph_nt hi) (fun hs => ek_if hd (fun e => ⟨ii, br_c (fun g => nm_r (nI_1 i) ((H1 hs e).1 g)) (fun g => ⟨ii, nm_e (nm_r (nI_1 i) ((H1 hs e).2 g))⟩)⟩) (fun e => nm_r (nI_1 i) (H2 (fun z => e z.2)))) (fun hs => nm_r (nI_1 i) (H2 (fun z => hs z.1)))
theorem ph_leastWith {post : Int32 → St1 → Prop} {aw p0 p1 q0 q1 : Int32} {t v a3 a4 a5 : Nat → Int32} {n a b : Nat} (ap : Bool) (hn : n ≤ 8) (ht : ph_ok t n) (ha : a < n) (hb : b < n) (hab : a ≠ b)
    (H : ∀ (l : Nat) (aw' p0' p1' q0' q1' : Int32) (a3' a4' a5' : Nat → Int32), ph_with t v n a b ap l → post (nI l) (nI n, aw', p0', p1', q0', q1', t, v, a3', a4', a5')) :
    wpX_leastWith post (nI n, aw, p0, p1, q0, q1, t, v, a3, a4, a5) (nI a) (nI b) (nI (if ap then 1 else 0)) := by
  unfold wpX_leastWith
  dsimp only
  refine ph_noRead hn ha (br_t rfl (ph_noRead hn hb (br_t rfl (pk_eq a b (fun z => absurd z hab) (fun _ => ?_)))))
  unfold wX_leastWith_27
  have Kb : ∀ i, (2 ^ a ||| 2 ^ b).testBit i = true ↔ i = a ∨ i = b := by
    intro i
    rw [ph_add_b, Nat.testBit_two_pow, Bool.or_eq_true, decide_eq_true_iff, decide_eq_true_iff]
    exact ⟨fun z => z.imp (fun g => g.symm) id, fun z => z.imp (fun g => g.symm) id⟩
  refine nm_r (ph_shl a (by omega)) (nm_r (ph_shl b (by omega)) ?_)
  rw [ph_or]
  refine ph_solve (K := 2 ^ a ||| 2 ^ b) (fo := false) ⟨fun _ => rfl, fun _ => rfl⟩ hn (fun i hi => by rcases (Kb i).mp hi with e | e <;> omega) ht (fun aw' p0' p1' q0' q1' a3' a4' a5' hf => ?_)
  refine pk_loop (σ := Int32) (fun f i x => wX_leastWith_54 post (nI (if ap then 1 else 0)) (nI (2 ^ a)) (nI (2 ^ b)) (nI n) aw' p0' p1' q0' q1' t v a3' a4' a5' f x (nI i))
    (fun i x => ∃ l, x = nI l ∧ l ≤ 1000000 ∧ (l = 1000000 ∨ ∃ M, ph_adm n M ∧ (M.testBit a ^^ M.testBit b) = ap ∧ ph_C t v n false 8 M = l) ∧ ∀ m, m < i → ph_sub m (2 ^ a ||| 2 ^ b) → (m.testBit a ^^ m.testBit b) = ap → m.testBit 0 = false → ∀ M', ph_adm n M' → (∀ j, (2 ^ a ||| 2 ^ b).testBit j = true → M'.testBit j = m.testBit j) → l ≤ ph_C t v n false 8 M')
    256 0 1000000 (by omega) ⟨1000000, rfl, by omega, Or.inl rfl, fun m hm => absurd hm (by omega)⟩
    (fun f x hI => pk_le 256 256 (fun _ => ?_) (fun z => absurd z (by omega)))
    (fun f i x hi hI hw => pk_le 256 i (fun z => absurd z (by omega)) (fun _ => ?_))
  · obtain ⟨l, rfl, h1, h2, h3⟩ := hI
    refine H l _ _ _ _ _ _ _ _ ⟨h1, h2, fun M hM hap => ?_⟩
    have hmb : ∀ j, (M &&& (2 ^ a ||| 2 ^ b)).testBit j = (M.testBit j && (2 ^ a ||| 2 ^ b).testBit j) := fun j => Nat.testBit_and _ _ _
    have hK : ∀ j, (2 ^ a ||| 2 ^ b).testBit j = true → M.testBit j = (M &&& (2 ^ a ||| 2 ^ b)).testBit j := fun j hj => by rw [hmb j, hj, Bool.and_true]
    refine h3 (M &&& (2 ^ a ||| 2 ^ b)) (ph_lt (fun j hj => ?_)) (fun j hj => ?_) ?_ ?_ M hM hK
    · rw [hmb j, Bool.and_eq_true] at hj
      have := hM.1 j hj.1
      omega
    · rw [hmb j, Bool.and_eq_true] at hj
      exact hj.2
    · rw [← hK a ((Kb a).mpr (Or.inl rfl)), ← hK b ((Kb b).mpr (Or.inr rfl))]
      exact hap
    · rw [hmb 0, hM.2]
      rfl
  · have key : ∀ d : Bool, (i.testBit a ^^ i.testBit b) = d → wX_leastWith_96 post (wX_leastWith_54 post (nI (if ap then 1 else 0)) (nI (2 ^ a)) (nI (2 ^ b)) (nI n) aw' p0' p1' q0' q1' t v a3' a4' a5' f) (nI (if ap then 1 else 0)) (nI (2 ^ a)) (nI (2 ^ b)) x (nI i) (nI (if d then 1 else 0)) (nI n) aw' p0' p1' q0' q1' t v a3' a4' a5' := by
      intro d hd
      obtain ⟨l, rfl, h1, h2, h3⟩ := hI
      refine ph_lw96 hi (fun hs e => ?_) (fun hne => hw _ ⟨l, rfl, h1, h2, fun m hm hms hma => ?_⟩)
      · have hrow := hf i hs
        cases h0 : i.testBit 0 with
        | true =>
          refine br_t (by rw [hrow.1 h0]; exact nI_le h1 (by omega)) (hw _ ⟨l, rfl, h1, h2, fun m hm hms hma hm0 => ?_⟩)
          by_cases em : m = i
          · exact absurd hm0 (by rw [em, h0]; decide)
          · exact h3 m (by omega) hms hma hm0
        | false =>
          obtain ⟨M, k1, k2, e1, e2, e3⟩ := hrow.2 h0
          have hle := ph_C_le (v := v) (M := M) (fo := false) ht hn (show 8 ≤ 8 by omega)
          rw [e1]
          refine pk_le l (ph_C t v n false 8 M) (fun g => hw _ ⟨l, rfl, h1, h2, fun m hm hms hma hm0 M' hM' hMa => ?_⟩) (fun g => hw _ ⟨ph_C t v n false 8 M, rfl, by omega, Or.inr ⟨M, k1, ?_, rfl⟩, fun m hm hms hma hm0 M' hM' hMa => ?_⟩)
          · by_cases em : m = i
            · rw [em] at hMa
              exact Nat.le_trans g (e3 M' hM' hMa)
            · exact h3 m (by omega) hms hma hm0 M' hM' hMa
          · rw [k2 a ((Kb a).mpr (Or.inl rfl)), k2 b ((Kb b).mpr (Or.inr rfl)), hd, e]
          · by_cases em : m = i
            · rw [em] at hMa
              exact e3 M' hM' hMa
            · exact Nat.le_trans (Nat.le_of_lt g) (h3 m (by omega) hms hma hm0 M' hM' hMa)
      · by_cases em : m = i
        · exact absurd ⟨em ▸ hms, by rw [← hd, ← em]; exact hma⟩ hne
        · exact h3 m (by omega) hms hma
    refine ek_if (ph_tb hi) (fun h1 => ek_if (ph_tb hi) (fun h2 => br_t rfl (key false ?_)) (fun h2 => br_f (by decide) (key true ?_))) (fun h1 => ek_if (ph_tb hi) (fun h2 => br_f (by decide) (key true ?_)) (fun h2 => br_t rfl (key false ?_)))
    · rw [h1, h2]
      rfl
    · rw [h1, ph_nf h2]
      rfl
    · rw [h2, ph_nf h1]
      rfl
    · rw [ph_nf h1, ph_nf h2]
      rfl
theorem ph_read {post : Int32 → St1 → Prop} {aw p0 p1 q0 q1 : Int32} {t v a3 a4 a5 : Nat → Int32} {n : Nat} (hn : n < 8)
    (H : ∀ (x : Int32) (t' : Nat → Int32), (∀ j, j < n * 8 → t' j = t j) → post x (nI (n + 1), aw, p0, p1, q0, q1, t', v, a3, a4, a5)) :
    wpX_read post (nI n, aw, p0, p1, q0, q1, t, v, a3, a4, a5) := by
  unfold wpX_read
  dsimp only
  refine pk_lt n 8 (fun _ => ?_) (fun z => absurd z (by omega))
  have ii : ∀ i, i < 8 → vp_in (nI n * 8 + nI i) 64 := fun i hi => by
    rw [ph_ix]
    exact vp_in_nI (by omega) (by omega)
  have ic : ∀ i, i < 8 → (nI n * 8 + nI i).toNatClampNeg = n * 8 + i := fun i hi => by
    rw [ph_ix]
    exact nI_clamp (by omega)
  exact pk_loop (σ := Nat → Int32) (fun f i s => wX_read_14 post (nI n) aw p0 p1 q0 q1 f (nI i) s v a3 a4 a5) (fun i s => ∀ j, j < n * 8 → s j = t j) 8 0 t (by omega) (fun j _ => rfl)
    (fun f s hI => pk_le 8 8 (fun _ => nm_r (nI_1 n) (H _ s hI)) (fun z => absurd z (by omega)))
    (fun f i s hi hI hw => pk_le 8 i (fun z => absurd z (by omega)) (fun _ => ⟨ii i hi, nm_e (nm_r (nI_1 i) (hw _ (fun j hj => by rw [ic i hi, pk_un (by omega)]; exact hI j hj)))⟩))
theorem ph_say {post : Int32 → St1 → Prop} {aw p0 p1 q0 q1 y z : Int32} {t v a3 a4 a5 : Nat → Int32} {n a i : Nat} (hn : n ≤ 8) (ha : a < n) (hi : i < 8) (hz : ∃ k, k ≤ 9 ∧ z = nI k)
    (H : ∀ x : Int32, post x (nI n, aw, p0, p1, q0, q1, upd t (a * 8 + i) z, upd v (a * 8 + i) (y &&& 1), a3, a4, a5)) :
    wpX_say post (nI n, aw, p0, p1, q0, q1, t, v, a3, a4, a5) (nI a) (nI i) y z := by
  obtain ⟨k, hk, rfl⟩ := hz
  unfold wpX_say
  dsimp only
  have ii : vp_in (nI (a * 8 + i)) 64 := vp_in_nI (by omega) (by omega)
  refine ph_noRead hn ha (br_t rfl (br_f (nI_pos (by omega)) (pk_lt i 8 (fun _ => br_f (nI_pos (by omega)) (pk_le k 9 (fun _ => nm_r (ph_ix a i) ?_) (fun g => absurd g (by omega)))) (fun g => absurd g (by omega)))))
  rw [nI_clamp (show a * 8 + i < 2 ^ 31 by omega)]
  exact ⟨ii, nm_e ⟨ii, nm_e ⟨ii, nm_e (H _)⟩⟩⟩
theorem ph_drop {post : Int32 → St1 → Prop} {aw p0 p1 q0 q1 : Int32} {t v a3 a4 a5 : Nat → Int32} {n : Nat} (hn : n < 8) (H : post (nI n) (nI n, aw, p0, p1, q0, q1, t, v, a3, a4, a5)) :
    wpX_drop post (nI (n + 1), aw, p0, p1, q0, q1, t, v, a3, a4, a5) := by
  unfold wpX_drop
  dsimp only
  exact br_f (nI_ne0 (by omega) (by omega)) (nm_r (nI_pred n) H)
end
section
/-! the law's walk: cells, data, the end, the copied read -/
def ph_cell (L : Nat) (xs : Nat → Int32) (k : Nat) : Int32 := if k < L then xs k else 0
theorem ph_wcell {post : Int32 → Prop} {L : Nat} {xs : Nat → Int32} {k : Nat} {x : Int32} (hx : x = nI k) (hk : k < 2 ^ 31) (hL : L ≤ 260) (H : post (ph_cell L xs k)) : wpL_cell post L xs () x := by
  subst hx
  refine pk_le L k (fun z => ?_) (fun z => ⟨vp_in_nI z (by omega), ?_⟩)
  · have e : ph_cell L xs k = 0 := if_neg (by omega)
    rw [e] at H
    exact H
  · rw [nI_clamp hk]
    have e : ph_cell L xs k = xs k := if_pos z
    rw [e] at H
    exact H
def ph_tr (x : Int32) : Int32 := if x &&& 3 = 0 then 0 else ((x >>> ((2 : Int32) &&& 31)) &&& 255) - ((x >>> ((2 : Int32) &&& 31)) &&& 255) / 10 * 10
theorem ph_tr_ok (x : Int32) : ∃ k, k ≤ 9 ∧ ph_tr x = nI k := by
  unfold ph_tr
  split
  · exact ⟨0, by omega, rfl⟩
  · obtain ⟨j, hj, e⟩ := pk_andE (x >>> ((2 : Int32) &&& 31)) (m := 255) 8 (by decide)
    rw [e]
    exact ⟨j % 10, by omega, pk_rem (d := 10) (by omega) (by omega) (by omega)⟩
def ph_te (L : Nat) (xs : Nat → Int32) (j : Nat) : Int32 := ph_tr (ph_cell L xs (1 + j))
def ph_ve (L : Nat) (xs : Nat → Int32) (j : Nat) : Int32 := (ph_cell L xs (1 + j) >>> ((10 : Int32) &&& 31)) &&& 1
def ph_dat (L : Nat) (xs : Nat → Int32) (N : Nat) (t v : Nat → Int32) : Prop := ∀ j, j < N → t j = ph_te L xs j ∧ v j = ph_ve L xs j
theorem ph_dat_ok {L : Nat} {xs : Nat → Int32} {n : Nat} {t v : Nat → Int32} (h : ph_dat L xs (n * 8) t v) : ph_ok t n := by
  intro j hj
  rw [(h j hj).1]
  exact ph_tr_ok _
theorem ph_at (a i : Nat) : (1 + 8 * nI a) + nI i = nI (1 + (a * 8 + i)) := by
  show (nI 1 + nI 8 * nI a) + nI i = _
  rw [pk_mul, nI_add, nI_add]
  congr 1
  omega
theorem ph_409 {post : Int32 → Prop} {L : Nat} {xs : Nat → Int32} {kc ks n : Nat} {aw p0 p1 q0 q1 : Int32} {t v a3 a4 a5 : Nat → Int32} (hp : post 1) (hn0 : 1 ≤ n) (hn : n ≤ 8) (ht : ph_ok t n) :
    wL_law_409 post L xs (nI n) kc ks (nI n) aw p0 p1 q0 q1 t v a3 a4 a5 := by
  obtain ⟨m, rfl⟩ : ∃ m, n = m + 1 := ⟨n - 1, by omega⟩
  unfold wL_law_409
  refine ph_wleast hn ht (fun l aw' p0' p1' q0' q1' a3' a4' a5' hl => ?_)
  refine ph_drop (by omega) (br_t (nI_pred m).symm (ph_wleast (by omega) (fun j hj => ht j (by omega)) (fun l' _ _ _ _ _ _ _ _ hl' => br_f (nI_nlt (ph_mono hl' hl) ?_) hp)))
  have := ph_least_le ht hn hl
  omega
theorem ph_two {t v : Nat → Int32} {n a b l l1 l2 : Nat} (hl9 : l ≤ 1152) (hl : ph_least t v n false l) (h1 : ph_with t v n a b false l1) (h2 : ph_with t v n a b true l2) : l ≤ l1 ∧ l ≤ l2 ∧ (l1 = l ∨ l2 = l) := by
  have g : ∀ ap x, ph_with t v n a b ap x → l ≤ x := by
    intro ap x h
    rcases h.2.1 with e | ⟨M, hM, _, e⟩
    · omega
    · rw [← e]
      exact hl.2 M hM
  have g1 := g _ _ h1
  have g2 := g _ _ h2
  refine ⟨g1, g2, ?_⟩
  obtain ⟨M, hM, e⟩ := hl.1
  cases hx : M.testBit a ^^ M.testBit b with
  | false =>
    have := h1.2.2 M hM hx
    exact Or.inl (by omega)
  | true =>
    have := h2.2.2 M hM hx
    exact Or.inr (by omega)
theorem ph_322 {post : Int32 → Prop} {L : Nat} {xs : Nat → Int32} {kc ks n a b : Nat} {aw p0 p1 q0 q1 : Int32} {t v a3 a4 a5 : Nat → Int32} (hp : post 1) (hL : L ≤ 260) (hn0 : 1 ≤ n) (hn : n ≤ 8) (ha : a < n) (hb : b < n) (hab : a ≠ b) (hd : ph_dat L xs (n * 8) t v) :
    ∃ fu, wL_law_322 post L xs (nI n) (nI a) (nI b) kc ks fu 0 (nI n) aw p0 p1 q0 q1 t v a3 a4 a5 := by
  refine pk_loop (σ := (Nat → Int32) × (Nat → Int32)) (fun f i s => wL_law_322 post L xs (nI n) (nI a) (nI b) kc ks f (nI i) (nI n) aw p0 p1 q0 q1 s.1 s.2 a3 a4 a5)
    (fun i s => (∀ j, j < n * 8 → ¬ (b * 8 ≤ j ∧ j < b * 8 + i) → s.1 j = ph_te L xs j ∧ s.2 j = ph_ve L xs j) ∧ (∀ k, k < i → s.1 (b * 8 + k) = ph_te L xs (a * 8 + k) ∧ s.2 (b * 8 + k) = ph_ve L xs (a * 8 + k)))
    8 0 (t, v) (by omega) ⟨fun j hj _ => hd j hj, fun k hk => absurd hk (by omega)⟩
    (fun f s hI => pk_le 8 8 (fun _ => ?_) (fun z => absurd z (by omega)))
    (fun f i s hi hI hw => pk_le 8 i (fun z => absurd z (by omega)) (fun _ => ph_wcell (ph_at a i) (by omega) hL ?_))
  · have ht : ph_ok s.1 n := by
      intro j hj
      by_cases e : b * 8 ≤ j ∧ j < b * 8 + 8
      · have g := (hI.2 (j - b * 8) (by omega)).1
        rw [show b * 8 + (j - b * 8) = j by omega] at g
        rw [g]
        exact ph_tr_ok _
      · rw [(hI.1 j hj e).1]
        exact ph_tr_ok _
    have hs : ∀ k, k < 8 → s.1 (a * 8 + k) = s.1 (b * 8 + k) ∧ s.2 (a * 8 + k) = s.2 (b * 8 + k) := by
      intro k hk
      have g1 := hI.1 (a * 8 + k) (by omega) (by omega)
      have g2 := hI.2 k hk
      rw [g1.1, g1.2, g2.1, g2.2]
      exact ⟨rfl, rfl⟩
    refine ph_leastWith false hn ht ha hb hab (fun l1 _ _ _ _ _ _ _ _ h1 => ph_wleast hn ht (fun l _ _ _ _ _ _ _ _ hl => br_t ?_ (ph_409 hp hn0 hn ht)))
    have hl9 := ph_least_le ht hn hl
    have e : l1 = l := by
      obtain ⟨M, hM, e⟩ := hl.1
      obtain ⟨M', hM', hsame, hle⟩ := ph_dup hab ha hb hs M hM
      have g := h1.2.2 M' hM' (by rw [hsame, Bool.xor_self])
      rcases h1.2.1 with e1 | ⟨M2, hM2, _, e2⟩
      · omega
      · have := hl.2 M2 hM2
        omega
    rw [e]
  · have key : wL_law_367 post L xs (wL_law_322 post L xs (nI n) (nI a) (nI b) kc ks f) (nI n) (nI a) (nI b) (nI i) (ph_cell L xs (1 + (a * 8 + i))) (ph_tr (ph_cell L xs (1 + (a * 8 + i)))) kc ks (nI n) aw p0 p1 q0 q1 s.1 s.2 a3 a4 a5 := by
      unfold wL_law_367
      refine ph_say hn hb hi (ph_tr_ok _) (fun x => nm_r (nI_1 i) (hw (upd s.1 (b * 8 + i) (ph_te L xs (a * 8 + i)), upd s.2 (b * 8 + i) (ph_ve L xs (a * 8 + i))) ⟨fun j hj hne => ?_, fun k hk => ?_⟩))
      · show upd s.1 (b * 8 + i) (ph_te L xs (a * 8 + i)) j = _ ∧ upd s.2 (b * 8 + i) (ph_ve L xs (a * 8 + i)) j = _
        rw [pk_un (by omega), pk_un (by omega)]
        exact hI.1 j hj (by omega)
      · show upd s.1 (b * 8 + i) (ph_te L xs (a * 8 + i)) (b * 8 + k) = _ ∧ upd s.2 (b * 8 + i) (ph_ve L xs (a * 8 + i)) (b * 8 + k) = _
        by_cases e : k = i
        · rw [e, pk_us, pk_us]
          exact ⟨rfl, rfl⟩
        · rw [pk_un (by omega), pk_un (by omega)]
          exact hI.2 k (by omega)
    refine br_c (fun h => ?_) (fun h => ⟨by decide, ?_⟩)
    · rw [show ph_tr (ph_cell L xs (1 + (a * 8 + i))) = 0 from if_pos h] at key
      exact key
    · rw [show ph_tr (ph_cell L xs (1 + (a * 8 + i))) = _ from if_neg h] at key
      exact key
theorem ph_207 {post : Int32 → Prop} {L : Nat} {xs : Nat → Int32} {JJ : Int32 → Int32 → Int32 → Int32 → Int32 → Int32 → Int32 → (Nat → Int32) → (Nat → Int32) → (Nat → Int32) → (Nat → Int32) → (Nat → Int32) → Prop} {kc ks n a l : Nat} {aw p0 p1 q0 q1 : Int32} {t v a3 a4 a5 : Nat → Int32} (hn : n ≤ 8) (ha : a < n) (ht : ph_ok t n) (hl : ph_least t v n false l)
    (H : ∀ (aw' p0' p1' q0' q1' : Int32) (a3' a4' a5' : Nat → Int32), JJ (nI (a + 1)) (nI n) aw' p0' p1' q0' q1' t v a3' a4' a5') :
    ∃ fu, wL_law_207 post L xs JJ (nI n) (nI l) (nI a) kc ks fu 0 (nI n) aw p0 p1 q0 q1 t v a3 a4 a5 := by
  have hl9 := ph_least_le ht hn hl
  refine pk_loop (σ := Int32 × Int32 × Int32 × Int32 × Int32 × (Nat → Int32) × (Nat → Int32) × (Nat → Int32)) (fun f i s => wL_law_207 post L xs JJ (nI n) (nI l) (nI a) kc ks f (nI i) (nI n) s.1 s.2.1 s.2.2.1 s.2.2.2.1 s.2.2.2.2.1 t v s.2.2.2.2.2.1 s.2.2.2.2.2.2.1 s.2.2.2.2.2.2.2)
    (fun _ _ => True) a 0 (aw, p0, p1, q0, q1, a3, a4, a5) (by omega) trivial
    (fun f s _ => pk_le a a (fun _ => nm_r (nI_1 a) (H _ _ _ _ _ _ _ _)) (fun z => absurd z (by omega)))
    (fun f i s hi _ hw => pk_le a i (fun z => absurd z (by omega)) (fun _ => ph_leastWith false hn ht ha (by omega) (by omega) (fun l1 _ _ _ _ _ _ _ _ h1 => ph_leastWith true hn ht ha (by omega) (by omega) (fun l2 aw' p0' p1' q0' q1' a3' a4' a5' h2 => ?_))))
  obtain ⟨g1, g2, g3⟩ := ph_two hl9 hl h1 h2
  have b1 := h1.1
  have b2 := h2.1
  refine pk_le l2 l1 (fun z => ?_) (fun z => ?_)
  · have e : l2 = l := by omega
    rw [e]
    exact br_t rfl (nm_r (nI_1 i) (hw (aw', p0', p1', q0', q1', a3', a4', a5') trivial))
  · have e : l1 = l := by omega
    rw [e]
    exact br_t rfl (nm_r (nI_1 i) (hw (aw', p0', p1', q0', q1', a3', a4', a5') trivial))
end
section
/-! the law's walk: the pairs, the masks, the reads, the top -/
theorem ph_ab {n p q : Nat} (hn : 2 ≤ n) : (p % n + 1 + q % (n - 1)) % n < n ∧ p % n ≠ (p % n + 1 + q % (n - 1)) % n := by
  have h1 : p % n < n := Nat.mod_lt _ (by omega)
  have h2 : q % (n - 1) < n - 1 := Nat.mod_lt _ (by omega)
  generalize p % n = a at h1 ⊢
  generalize q % (n - 1) = c at h2 ⊢
  refine ⟨Nat.mod_lt _ (by omega), ?_⟩
  rcases Nat.lt_or_ge (a + 1 + c) n with z | z
  · rw [Nat.mod_eq_of_lt z]
    omega
  · rw [Nat.mod_eq_sub_mod z, Nat.mod_eq_of_lt (by omega)]
    omega
theorem ph_198 {post : Int32 → Prop} {L : Nat} {xs : Nat → Int32} {kc ks n l : Nat} {aw p0 p1 q0 q1 : Int32} {t v a3 a4 a5 : Nat → Int32} (hp : post 1) (hL : L ≤ 260) (hn0 : 1 ≤ n) (hn : n ≤ 8) (hd : ph_dat L xs (n * 8) t v) (hl : ph_least t v n false l) :
    ∃ fu, wL_law_198 post L xs (nI n) (nI l) kc ks fu 0 (nI n) aw p0 p1 q0 q1 t v a3 a4 a5 := by
  have ht := ph_dat_ok hd
  refine pk_loop (σ := Int32 × Int32 × Int32 × Int32 × Int32 × (Nat → Int32) × (Nat → Int32) × (Nat → Int32)) (fun f i s => wL_law_198 post L xs (nI n) (nI l) kc ks f (nI i) (nI n) s.1 s.2.1 s.2.2.1 s.2.2.2.1 s.2.2.2.2.1 t v s.2.2.2.2.2.1 s.2.2.2.2.2.2.1 s.2.2.2.2.2.2.2)
    (fun _ _ => True) n 0 (aw, p0, p1, q0, q1, a3, a4, a5) (by omega) trivial
    (fun f s _ => pk_le n n (fun _ => pk_le n 1 (fun _ => ph_409 hp hn0 hn ht) (fun h1 => ph_wcell (k := 65) rfl (by omega) hL ?_)) (fun z => absurd z (by omega)))
    (fun f i s hi _ hw => pk_le n i (fun z => absurd z (by omega)) (fun _ => ph_207 hn hi ht hl (fun aw' p0' p1' q0' q1' a3' a4' a5' => hw (aw', p0', p1', q0', q1', a3', a4', a5') trivial)))
  obtain ⟨p, hp8, ep⟩ := pk_andE (ph_cell L xs 65) (m := 7) 3 (by decide)
  obtain ⟨q, hq8, eq⟩ := pk_andE (ph_cell L xs 65 >>> ((3 : Int32) &&& 31)) (m := 7) 3 (by decide)
  obtain ⟨hb, hab⟩ := ph_ab (p := p) (q := q) (show 2 ≤ n by omega)
  have hs : nI n - 1 = nI (n - 1) := pk_sub (b := 1) hn0
  have hpn : p % n < n := Nat.mod_lt _ (by omega)
  have hqn : q % (n - 1) < n - 1 := Nat.mod_lt _ (by omega)
  refine nm_r ep (ph_wcell (k := 65) rfl (by omega) hL (nm_r eq ⟨nI_ne0 (by omega) (by omega), nm_r (pk_rem (by omega) (by omega) (by omega)) ⟨by rw [hs]; exact nI_ne0 (by omega) (by omega), nI_ne0 (by omega) (by omega), ?_⟩⟩))
  refine nm_r (e' := nI ((p % n + 1 + q % (n - 1)) % n)) ?_ (ph_322 hp hL hn0 hn hpn hb hab hd)
  rw [hs, pk_rem (a := q) (d := n - 1) (by omega) (by omega) (by omega), nI_1, nI_add, pk_rem (by omega) (by omega) (by omega)]
theorem ph_168 {post : Int32 → Prop} {L : Nat} {xs : Nat → Int32} {kc ks n l : Nat} {aw p0 p1 q0 q1 : Int32} {t v a3 a4 a5 : Nat → Int32} (hp : post 1) (hL : L ≤ 260) (hn0 : 1 ≤ n) (hn : n ≤ 8) (hd : ph_dat L xs (n * 8) t v) (hl : ph_least t v n false l) :
    ∃ fu, wL_law_168 post L xs (nI n) (nI l) kc ks fu 0 (nI n) aw p0 p1 q0 q1 t v a3 a4 a5 := by
  have ht := ph_dat_ok hd
  refine pk_loop (σ := Int32 × Int32 × Int32 × Int32) (fun f i s => wL_law_168 post L xs (nI n) (nI l) kc ks f (nI i) (nI n) aw s.1 s.2.1 s.2.2.1 s.2.2.2 t v a3 a4 a5)
    (fun _ _ => True) 256 0 (p0, p1, q0, q1) (by omega) trivial
    (fun f s _ => pk_le 256 256 (fun _ => ph_198 hp hL hn0 hn hd hl) (fun z => absurd z (by omega)))
    (fun f i s hi _ hw => pk_le 256 i (fun z => absurd z (by omega)) (fun _ => ph_costOf hn ht (fun p0' p1' q0' q1' => br_t (nI_le (hl.2 _ (ph_cut_adm hn)) ?_) (nm_r (nI_1 i) (hw (p0', p1', q0', q1') trivial)))))
  have := ph_C_le (v := v) (M := ph_cut n i) (fo := false) ht hn (show 8 ≤ 8 by omega)
  omega
theorem ph_41 {post : Int32 → Prop} {L : Nat} {xs : Nat → Int32} {JJ : Int32 → Int32 → Int32 → Int32 → Int32 → Int32 → Int32 → Int32 → (Nat → Int32) → (Nat → Int32) → (Nat → Int32) → (Nat → Int32) → (Nat → Int32) → Prop} {kc ks r l : Nat} {x2 aw p0 p1 q0 q1 : Int32} {t v a3 a4 a5 : Nat → Int32} (hL : L ≤ 260) (hr : r < 8) (hd : ph_dat L xs (r * 8) t v) (hl : ph_least (ph_te L xs) (ph_ve L xs) r false l)
    (H : ∀ (l' : Nat) (aw' p0' p1' q0' q1' : Int32) (t' v' a3' a4' a5' : Nat → Int32), ph_dat L xs ((r + 1) * 8) t' v' → ph_least (ph_te L xs) (ph_ve L xs) (r + 1) false l' → JJ (nI l') (nI (r + 1)) (nI (r + 1)) aw' p0' p1' q0' q1' t' v' a3' a4' a5') :
    ∃ fu, wL_law_41 post L xs JJ x2 (nI l) (nI r) kc ks fu 0 (nI (r + 1)) aw p0 p1 q0 q1 t v a3 a4 a5 := by
  refine pk_loop (σ := (Nat → Int32) × (Nat → Int32)) (fun f i s => wL_law_41 post L xs JJ x2 (nI l) (nI r) kc ks f (nI i) (nI (r + 1)) aw p0 p1 q0 q1 s.1 s.2 a3 a4 a5)
    (fun i s => ph_dat L xs (r * 8 + i) s.1 s.2) 8 0 (t, v) (by omega) hd
    (fun f s hI => pk_le 8 8 (fun _ => ?_) (fun z => absurd z (by omega)))
    (fun f i s hi hI hw => pk_le 8 i (fun z => absurd z (by omega)) (fun _ => ph_wcell (ph_at r i) (by omega) hL ?_))
  · have hd' : ph_dat L xs ((r + 1) * 8) s.1 s.2 := fun j hj => hI j (by omega)
    have ht := ph_dat_ok hd'
    refine ph_wleast (by omega) ht (fun l1 _ _ _ _ _ _ _ _ h1 => br_t (nI_le (ph_mono hl (ph_least_data hd' h1)) ?_) (ph_wleast (by omega) ht (fun l2 _ _ _ _ _ _ _ _ h2 => nm_r (nI_1 r) (H _ _ _ _ _ _ _ _ _ _ _ hd' (ph_least_data hd' h2)))))
    have := ph_least_le ht (by omega) h1
    omega
  · have key : wL_law_86 post L xs JJ (wL_law_41 post L xs JJ x2 (nI l) (nI r) kc ks f) x2 (nI l) (nI r) (nI i) (ph_cell L xs (1 + (r * 8 + i))) (ph_tr (ph_cell L xs (1 + (r * 8 + i)))) kc ks (nI (r + 1)) aw p0 p1 q0 q1 s.1 s.2 a3 a4 a5 := by
      unfold wL_law_86
      refine ph_say (by omega) (by omega) hi (ph_tr_ok _) (fun x => nm_r (nI_1 i) (hw (upd s.1 (r * 8 + i) (ph_te L xs (r * 8 + i)), upd s.2 (r * 8 + i) (ph_ve L xs (r * 8 + i))) (fun j hj => ?_)))
      show upd s.1 (r * 8 + i) (ph_te L xs (r * 8 + i)) j = _ ∧ upd s.2 (r * 8 + i) (ph_ve L xs (r * 8 + i)) j = _
      by_cases e : j = r * 8 + i
      · rw [e, pk_us, pk_us]
        exact ⟨rfl, rfl⟩
      · rw [pk_un e, pk_un e]
        exact hI j (by omega)
    refine br_c (fun h => ?_) (fun h => ⟨by decide, ?_⟩)
    · rw [show ph_tr (ph_cell L xs (1 + (r * 8 + i))) = 0 from if_pos h] at key
      exact key
    · rw [show ph_tr (ph_cell L xs (1 + (r * 8 + i))) = _ from if_neg h] at key
      exact key
theorem ph_27 {post : Int32 → Prop} {L : Nat} {xs : Nat → Int32} {kc ks n : Nat} {aw p0 p1 q0 q1 : Int32} {t v a3 a4 a5 : Nat → Int32} (hp : post 1) (hL : L ≤ 260) (hn0 : 1 ≤ n) (hn : n ≤ 8) :
    ∃ fu, wL_law_27 post L xs (nI n) kc ks fu 0 0 0 aw p0 p1 q0 q1 t v a3 a4 a5 := by
  refine pk_loop (σ := Int32 × Int32 × Int32 × Int32 × Int32 × Int32 × (Nat → Int32) × (Nat → Int32) × (Nat → Int32) × (Nat → Int32) × (Nat → Int32)) (fun f i s => wL_law_27 post L xs (nI n) kc ks f s.1 (nI i) (nI i) s.2.1 s.2.2.1 s.2.2.2.1 s.2.2.2.2.1 s.2.2.2.2.2.1 s.2.2.2.2.2.2.1 s.2.2.2.2.2.2.2.1 s.2.2.2.2.2.2.2.2.1 s.2.2.2.2.2.2.2.2.2.1 s.2.2.2.2.2.2.2.2.2.2)
    (fun i s => ∃ l, s.1 = nI l ∧ ph_least (ph_te L xs) (ph_ve L xs) i false l ∧ ph_dat L xs (i * 8) s.2.2.2.2.2.2.1 s.2.2.2.2.2.2.2.1)
    n 0 (0, aw, p0, p1, q0, q1, t, v, a3, a4, a5) (by omega) ⟨0, rfl, ph_least_0, fun j hj => absurd hj (by omega)⟩
    (fun f s hI => pk_le n n (fun _ => ?_) (fun z => absurd z (by omega)))
    (fun f i s hi hI hw => pk_le n i (fun z => absurd z (by omega)) (fun _ => ?_))
  · obtain ⟨_, _, _, hd⟩ := hI
    have ht := ph_dat_ok hd
    refine ph_wleast hn ht (fun l _ _ _ _ _ _ _ _ hl => ph_wsorting hn ht (fun M _ _ _ _ _ _ _ _ hM hMl => ph_costOf hn ht (fun _ _ _ _ => br_t ?_ (ph_wforced hn ht (fun lf _ _ _ _ _ _ _ _ hf => br_t (nI_le (ph_forced hl hf) ?_) (ph_168 hp hL hn0 hn hd hl))))))
    · rw [ph_cut_id hn hM, ph_least_uniq hMl hl]
    · have := ph_least_le ht hn hf
      omega
  · obtain ⟨l, e, hl, hd⟩ := hI
    rw [e]
    refine ph_read (by omega) (fun x t' ht' => ph_41 hL (by omega) (fun j hj => by rw [ht' j hj]; exact hd j hj) hl (fun l' aw' p0' p1' q0' q1' t2 v2 a3' a4' a5' hd' hl' => hw (nI l', aw', p0', p1', q0', q1', t2, v2, a3', a4', a5') ⟨l', rfl, hl', hd'⟩))
theorem i_vc (xs : Nat → Int32) (L : Nat) (hL : L ≤ 260) : wpL_law (fun r => r = 1) L xs := by
  refine ⟨5, 896, by omega, by omega, ?_⟩
  unfold wpX_init
  dsimp only
  refine ⟨by omega, by omega, by omega, by omega, by omega, by omega, by omega, by omega, by omega, by omega, ?_⟩
  refine ph_wcell (k := 0) rfl (by omega) hL ⟨by decide, ?_⟩
  obtain ⟨j, hj, e⟩ := pk_andE (ph_cell L xs 0) (m := 2147483647) 31 (by decide)
  refine nm_r (e' := nI (1 + j % 8)) ?_ (ph_27 rfl hL (by omega) (by omega))
  rw [e]
  show nI 1 + (nI j - nI j / nI 8 * nI 8) = _
  rw [pk_rem hj (by omega) (by omega), nI_add]
end
