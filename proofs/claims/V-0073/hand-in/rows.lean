section
/-! rows of kit/rows (starting texts), as pasted -/
theorem pk_us {f : Nat → Int32} {k : Nat} {x : Int32} : upd f k x k = x := if_pos rfl
theorem pk_un {f : Nat → Int32} {k j : Nat} {x : Int32} (h : j ≠ k) : upd f k x j = f j := if_neg h
theorem pk_sub {a b : Nat} (h : b ≤ a) : nI a - nI b = nI (a - b) := by
  obtain ⟨c, rfl⟩ : ∃ c, a = c + b := ⟨a - b, by omega⟩
  rw [← nI_add, Int32.add_sub_cancel, Nat.add_sub_cancel]
theorem pk_m1 (n : Nat) : nI (n + 1) + (-1) = nI n := by
  rw [← nI_1, Int32.add_assoc, show (1 : Int32) + (-1) = 0 from rfl, Int32.add_zero]
theorem pk_mul (a b : Nat) : nI a * nI b = nI (a * b) := (Int32.ofNat_mul a b).symm
theorem pk_ix (x : Int32) {n : Nat} (hn : n < 2 ^ 31) : x < 0 ∨ nI n ≤ x ∨ ∃ j : Nat, j < n ∧ x = nI j := by
  by_cases h : x < 0
  · exact Or.inl h
  · obtain ⟨j, hj, rfl⟩ := nI_of h
    by_cases h2 : j < n
    · exact Or.inr (Or.inr ⟨j, h2, rfl⟩)
    · exact Or.inr (Or.inl (nI_le (by omega) hj))
theorem pk_in {x : Int32} (n N : Nat) (h : n < N) (hx : x = nI n := by rfl) (hN : N < 2 ^ 31 := by omega) : vp_in x N := by
  subst hx
  exact vp_in_nI h hN
theorem pk_cl {x : Int32} (n : Nat) (hx : x = nI n := by rfl) (h : n < 2 ^ 31 := by omega) : x.toNatClampNeg = n := by
  subst hx
  exact nI_clamp h
theorem pk_vb (z : Int32) : vp_nar .byte z.toInt8.toInt32 = z.toInt8.toInt32 := by rw [vp_nar_byte]; simp
def bt (x : Int32) (i : Nat) : Bool := x.toBitVec.getLsbD i
theorem b_ext {x y : Int32} (h : ∀ i, i < 32 → bt x i = bt y i) : x = y := Int32.toBitVec_inj.mp (BitVec.eq_of_getLsbD_eq (fun i hi => h i hi))
theorem b_or (x y : Int32) (i : Nat) : bt (x ||| y) i = (bt x i || bt y i) := by unfold bt; rw [Int32.toBitVec_or, BitVec.getLsbD_or]
theorem b_and (x y : Int32) (i : Nat) : bt (x &&& y) i = (bt x i && bt y i) := by unfold bt; rw [Int32.toBitVec_and, BitVec.getLsbD_and]
theorem b_big {x : Int32} {i : Nat} (h : 32 ≤ i) : bt x i = false := BitVec.getLsbD_of_ge _ _ h
theorem b_0 (i : Nat) : bt 0 i = false := BitVec.getLsbD_zero
theorem s_l : ∀ n, n < 32 → ((nI n &&& 31).toBitVec.smod 32).toNat = n := by decide +kernel
theorem b_shl (n : Nat) (hn : n < 32) (x : Int32) {i : Nat} (hi : i < 32) : bt (x <<< (nI n &&& 31)) i = (decide (n ≤ i) && bt x (i - n)) := by
  unfold bt
  rw [Int32.toBitVec_shiftLeft]
  show (x.toBitVec <<< ((nI n &&& 31).toBitVec.smod 32).toNat).getLsbD i = _
  rw [s_l n hn, BitVec.getLsbD_shiftLeft]
  rcases Nat.lt_or_ge i n with h | h
  · simp [h, Nat.not_le.mpr h]
  · simp [hi, h, Nat.not_lt.mpr h]
theorem b_sshr (n : Nat) (hn : n < 32) (x : Int32) {i : Nat} (hi : i < 32) : bt (x >>> (nI n &&& 31)) i = if n + i < 32 then bt x (n + i) else bt x 31 := by
  unfold bt
  rw [Int32.toBitVec_shiftRight]
  show (x.toBitVec.sshiftRight ((nI n &&& 31).toBitVec.smod 32).toNat).getLsbD i = _
  rw [s_l n hn, BitVec.getLsbD_sshiftRight, BitVec.msb_eq_getLsbD_last]
  simp [hi]
/-! numbers -/
theorem ar_a1 (a : Nat) : nI a + 1 = nI (a + 1) := nI_add a 1
theorem ar_a2 (a : Nat) : nI a + 2 = nI (a + 2) := nI_add a 2
theorem ar_a3 (a : Nat) : nI a + 3 = nI (a + 3) := nI_add a 3
theorem ar_a4 (a : Nat) : nI a + 4 = nI (a + 4) := nI_add a 4
theorem ar_a5 (a : Nat) : nI a + 5 = nI (a + 5) := nI_add a 5
theorem ar_16 (a : Nat) : 16 + nI a = nI (16 + a) := nI_add 16 a
theorem ar_8 (a : Nat) : 8 + nI a = nI (8 + a) := nI_add 8 a
theorem ar_m8 (v i : Nat) : nI v * 8 + nI i = nI (v * 8 + i) := by
  rw [show (8 : Int32) = nI 8 from rfl, pk_mul, nI_add]
theorem ar_m32 (v i : Nat) : nI v * 32 + nI i = nI (v * 32 + i) := by
  rw [show (32 : Int32) = nI 32 from rfl, pk_mul, nI_add]
theorem ar_m5 (v : Nat) : nI v * 5 = nI (v * 5) := pk_mul v 5
theorem ar_m35 (v i : Nat) : nI v * 35 + nI i = nI (v * 35 + i) := by
  rw [show (35 : Int32) = nI 35 from rfl, pk_mul, nI_add]
theorem ar_st (l i : Nat) : (nI l * 6 + nI i) * 5 = nI ((l * 6 + i) * 5) := by
  rw [show (6 : Int32) = nI 6 from rfl, pk_mul, nI_add, ar_m5]
theorem ar_cd (l i : Nat) : nI l * 35 + nI i * 5 = nI (l * 35 + i * 5) := by
  rw [ar_m5, ar_m35]
theorem ar_neg1 : ¬ (0 : Int32) ≤ -1 := by decide
theorem ar_neg2 : (-1 : Int32) < 0 := by decide
theorem ar_ne1 {a : Nat} (h : a < 2 ^ 31) : ¬ nI a = -1 := by
  intro e
  have := nI_pos (n := a) h
  rw [e] at this
  exact this ar_neg2
theorem ar_le {x y : Int32} (h : ¬ x ≤ y) : y < x := Int32.not_le.mp h
theorem ar_lt {x y : Int32} (h : ¬ x < y) : y ≤ x := Int32.not_lt.mp h
theorem ar_nle {x y : Int32} (h : y < x) : ¬ x ≤ y := Int32.not_le.mpr h
theorem ar_nlt {x y : Int32} (h : y ≤ x) : ¬ x < y := Int32.not_lt.mpr h
theorem ar_upd_self {f : Nat → Int32} {k : Nat} {x : Int32} (h : f k = x) : upd f k x = f := by
  funext j
  unfold upd
  by_cases e : j = k
  · rw [if_pos e, e, h]
  · rw [if_neg e]
/-- an operand: a constant, or a variable -/
def pu_op (V : Nat) (o : Int32) : Prop := o < 0 ∨ ∃ j, j < V ∧ o = nI j
theorem ar_op {V : Nat} {o : Int32} (hV : V ≤ 8) (h : o < nI V) : pu_op V o := by
  rcases pk_ix o (n := V) (by omega) with a | a | ⟨j, hj, e⟩
  · exact Or.inl a
  · exact absurd h (ar_nlt a)
  · exact Or.inr ⟨j, hj, e⟩
theorem ar_opn {V : Nat} {o : Int32} (hV : V ≤ 8) (h : pu_op V o) : o < nI V := by
  rcases h with a | ⟨j, hj, rfl⟩
  · exact Int32.lt_of_lt_of_le a (nI_pos' (by omega))
  · exact nI_lt hj (by omega)
end
section
/-! pigeonhole, counting -/
theorem pg_pig : ∀ (n : Nat) (f : Nat → Nat), (∀ i, i ≤ n → f i < n) → ∃ i j, i < j ∧ j ≤ n ∧ f i = f j := by
  intro n
  induction n with
  | zero => intro f h; exact absurd (h 0 (Nat.le_refl 0)) (Nat.not_lt_zero _)
  | succ n ih =>
    intro f h
    by_cases hx : ∃ i, i ≤ n ∧ f i = f (n + 1)
    · obtain ⟨i, hi, e⟩ := hx
      exact ⟨i, n + 1, by omega, Nat.le_refl _, e⟩
    · have hne : ∀ i, i ≤ n → f i ≠ f (n + 1) := fun i hi e => hx ⟨i, hi, e⟩
      have hb := h (n + 1) (Nat.le_refl _)
      obtain ⟨i, j, hij, hj, e⟩ := ih (fun i => if f i = n then f (n + 1) else f i) (by
        intro i hi
        have h1 := h i (by omega)
        have h2 := hne i hi
        by_cases z : f i = n
        · simp only [z, if_true]; omega
        · simp only [z, if_false]; omega)
      have hi2 := hne i (by omega)
      have hj2 := hne j hj
      refine ⟨i, j, hij, by omega, ?_⟩
      by_cases z1 : f i = n
      · by_cases z2 : f j = n
        · rw [z1, z2]
        · simp only [z1, z2, if_true, if_false] at e; exact absurd e.symm hj2
      · by_cases z2 : f j = n
        · simp only [z1, z2, if_true, if_false] at e; exact absurd e hi2
        · simp only [z1, z2, if_false] at e; exact e
theorem pg_surj {n : Nat} {f : Nat → Nat} (hb : ∀ i, i < n → f i < n) (hi : ∀ i j, i < n → j < n → f i = f j → i = j) {r : Nat} (hr : r < n) : ∃ p, p < n ∧ f p = r := by
  by_cases hx : ∃ p, p < n ∧ f p = r
  · exact hx
  · exfalso
    obtain ⟨i, j, hij, hj, e⟩ := pg_pig n (fun i => if i < n then f i else r) (by
      intro i _
      by_cases z : i < n
      · simp only [z, if_true]; exact hb i z
      · simp only [z, if_false]; exact hr)
    have zi : i < n := by omega
    by_cases zj : j < n
    · simp only [zi, zj, if_true] at e
      have := hi i j zi zj e
      omega
    · simp only [zi, zj, if_true, if_false] at e
      exact hx ⟨i, zi, e⟩
def pu_cn (P : Nat → Bool) : Nat → Nat
  | 0 => 0
  | n + 1 => pu_cn P n + (if P n = true then 1 else 0)
theorem cn_bd (P : Nat → Bool) : ∀ n, pu_cn P n ≤ n := by
  intro n
  induction n with
  | zero => exact Nat.le_refl 0
  | succ n ih => unfold pu_cn; split <;> omega
theorem cn_bdl (P : Nat → Bool) : ∀ n q, q < n → P q = false → pu_cn P n < n := by
  intro n
  induction n with
  | zero => intro q h; omega
  | succ n ih =>
    intro q hq hP
    unfold pu_cn
    have hb := cn_bd P n
    by_cases e : q = n
    · subst e; rw [hP]; simp only [Bool.false_eq_true, if_false]; omega
    · have := ih q (by omega) hP
      split <;> omega
theorem cn_le {P Q : Nat → Bool} : ∀ n, (∀ q, q < n → P q = true → Q q = true) → pu_cn P n ≤ pu_cn Q n := by
  intro n
  induction n with
  | zero => intro _; exact Nat.le_refl 0
  | succ n ih =>
    intro h
    have h1 := ih (fun q hq => h q (by omega))
    have h2 := h n (by omega)
    unfold pu_cn
    by_cases z : P n = true
    · rw [if_pos z, if_pos (h2 z)]; omega
    · rw [if_neg z]; omega
theorem cn_lt {P Q : Nat → Bool} : ∀ n q, (∀ q, q < n → P q = true → Q q = true) → q < n → P q = false → Q q = true → pu_cn P n < pu_cn Q n := by
  intro n
  induction n with
  | zero => intro q _ h; omega
  | succ n ih =>
    intro q h hq hP hQ
    unfold pu_cn
    by_cases e : q = n
    · subst e
      have h1 := cn_le (P := P) (Q := Q) q (fun q' hq' => h q' (by omega))
      rw [hP, hQ]; simp only [Bool.false_eq_true, if_false, if_true]; omega
    · have h1 := ih q (fun q' hq' => h q' (by omega)) (by omega) hP hQ
      have h2 := h n (by omega)
      by_cases z : P n = true
      · rw [if_pos z, if_pos (h2 z)]; omega
      · rw [if_neg z]; omega
theorem cn_eq {P Q : Nat → Bool} : ∀ n, (∀ q, q < n → P q = Q q) → pu_cn P n = pu_cn Q n := by
  intro n
  induction n with
  | zero => intro _; rfl
  | succ n ih =>
    intro h
    unfold pu_cn
    rw [ih (fun q hq => h q (by omega)), h n (by omega)]
/-! chains of jumps -/
def pu_ch (F : Nat → Int32) (p : Nat) : Nat → Nat
  | 0 => p
  | k + 1 => (F (pu_ch F p k)).toNatClampNeg
theorem ch_shift (F : Nat → Int32) (p : Nat) : ∀ k, pu_ch F (pu_ch F p 1) k = pu_ch F p (k + 1) := by
  intro k
  induction k with
  | zero => rfl
  | succ k ih => show (F (pu_ch F (pu_ch F p 1) k)).toNatClampNeg = _; rw [ih]; rfl
theorem ch_add (F : Nat → Int32) (p a : Nat) : ∀ k, pu_ch F (pu_ch F p a) k = pu_ch F p (a + k) := by
  intro k
  induction k with
  | zero => rfl
  | succ k ih => show (F (pu_ch F (pu_ch F p a) k)).toNatClampNeg = _; rw [ih]; rfl
/-- all jumps among the first n: jumps for ever -/
theorem ch_all {n : Nat} {F K : Nat → Int32} (hF : ∀ p, p < n → K p = 3 → ∃ q, q < n ∧ F p = nI q) (hn : n ≤ 32) {p : Nat} (hp : p < n)
    (h : ∀ k, k < n → K (pu_ch F p k) = 3) : ∀ k, K (pu_ch F p k) = 3 ∧ pu_ch F p k < n := by
  have h1 : ∀ k, k ≤ n → pu_ch F p k < n := by
    intro k
    induction k with
    | zero => intro _; exact hp
    | succ k ih =>
      intro hk
      obtain ⟨q, hq, e⟩ := hF _ (ih (by omega)) (h k (by omega))
      show (F (pu_ch F p k)).toNatClampNeg < n
      rw [e, nI_clamp (by omega)]; exact hq
  obtain ⟨i, j, hij, hj, e⟩ := pg_pig n (pu_ch F p) h1
  have hn' : ∃ k, k < n ∧ pu_ch F p n = pu_ch F p k := by
    refine ⟨i + (n - j), by omega, ?_⟩
    rw [← ch_add, e, ch_add]
    congr 1; omega
  have key : ∀ k, ∃ k', k' < n ∧ pu_ch F p k = pu_ch F p k' := by
    intro k
    induction k with
    | zero => exact ⟨0, by omega, rfl⟩
    | succ k ih =>
      obtain ⟨k', hk', e'⟩ := ih
      have e2 : pu_ch F p (k + 1) = pu_ch F p (k' + 1) := by
        show (F (pu_ch F p k)).toNatClampNeg = (F (pu_ch F p k')).toNatClampNeg
        rw [e']
      by_cases z : k' + 1 < n
      · exact ⟨k' + 1, z, e2⟩
      · obtain ⟨k2, hk2, e3⟩ := hn'
        refine ⟨k2, hk2, ?_⟩
        rw [e2, show k' + 1 = n by omega, e3]
  intro k
  obtain ⟨k', hk', e'⟩ := key k
  rw [e']
  exact ⟨h k' hk', h1 k' (by omega)⟩
/-! the order of points -/
def pu_lx (pv : Nat → Int32) (p q : Nat) : Nat → Nat → Bool
  | 0, _ => false
  | k + 1, i => if pv (p * 8 + i) = pv (q * 8 + i) then pu_lx pv p q k (i + 1) else decide (pv (p * 8 + i) < pv (q * 8 + i))
def pu_ls (V : Nat) (pl pv : Nat → Int32) (p q : Nat) : Bool :=
  if pl p = pl q then pu_lx pv p q V 0 else decide (pl p < pl q)
theorem lx_ir (pv : Nat → Int32) (p : Nat) : ∀ k i, pu_lx pv p p k i = false := by
  intro k
  induction k with
  | zero => intro i; rfl
  | succ k ih => intro i; unfold pu_lx; rw [if_pos rfl]; exact ih _
theorem lx_tr (pv : Nat → Int32) (p q r : Nat) : ∀ k i, pu_lx pv p q k i = true → pu_lx pv q r k i = true → pu_lx pv p r k i = true := by
  intro k
  induction k with
  | zero => intro i h _; exact h
  | succ k ih =>
    intro i
    unfold pu_lx
    intro h1 h2
    by_cases e1 : pv (p * 8 + i) = pv (q * 8 + i)
    · rw [if_pos e1] at h1
      by_cases e2 : pv (q * 8 + i) = pv (r * 8 + i)
      · rw [if_pos e2] at h2
        rw [if_pos (e1.trans e2)]; exact ih _ h1 h2
      · rw [if_neg e2] at h2
        rw [e1, if_neg e2]; exact h2
    · rw [if_neg e1] at h1
      by_cases e2 : pv (q * 8 + i) = pv (r * 8 + i)
      · rw [← e2, if_neg e1]; exact h1
      · rw [if_neg e2] at h2
        have a := of_decide_eq_true h1
        have b := of_decide_eq_true h2
        have c := Int32.lt_trans a b
        rw [if_neg (fun z => Int32.lt_irrefl (z ▸ c)), decide_eq_true c]
theorem lx_tot (pv : Nat → Int32) (p q : Nat) : ∀ k i, pu_lx pv p q k i = false → pu_lx pv q p k i = false → ∀ v, i ≤ v → v < i + k → pv (p * 8 + v) = pv (q * 8 + v) := by
  intro k
  induction k with
  | zero => intro i _ _ v h1 h2; omega
  | succ k ih =>
    intro i
    unfold pu_lx
    intro h1 h2 v hv hv2
    by_cases e1 : pv (p * 8 + i) = pv (q * 8 + i)
    · rw [if_pos e1] at h1
      rw [if_pos e1.symm] at h2
      by_cases e : v = i
      · rw [e]; exact e1
      · exact ih (i + 1) h1 h2 v (by omega) (by omega)
    · rw [if_neg e1] at h1
      rw [if_neg (fun z => e1 z.symm)] at h2
      have a := ar_lt (of_decide_eq_false h1)
      have b := ar_lt (of_decide_eq_false h2)
      exact absurd (Int32.le_antisymm b a) e1
theorem lx_ext {pv pv' : Nat → Int32} {p q : Nat} : ∀ k i, (∀ v, i ≤ v → v < i + k → pv' (p * 8 + v) = pv (p * 8 + v) ∧ pv' (q * 8 + v) = pv (q * 8 + v)) → pu_lx pv' p q k i = pu_lx pv p q k i := by
  intro k
  induction k with
  | zero => intro i _; rfl
  | succ k ih =>
    intro i h
    unfold pu_lx
    rw [(h i (by omega) (by omega)).1, (h i (by omega) (by omega)).2, ih (i + 1) (fun v h1 h2 => h v (by omega) (by omega))]
theorem lx_zero {pv : Nat → Int32} {p q : Nat} : ∀ k i, (∀ v, i ≤ v → v < i + k → pv (p * 8 + v) = pv (q * 8 + v)) → pu_lx pv p q k i = false := by
  intro k
  induction k with
  | zero => intro i _; rfl
  | succ k ih =>
    intro i h
    unfold pu_lx
    rw [if_pos (h i (by omega) (by omega))]
    exact ih (i + 1) (fun v h1 h2 => h v (by omega) (by omega))
theorem lx_more {pv : Nat → Int32} {p q : Nat} (m : Nat) : ∀ k i, (∀ v, i + k ≤ v → v < i + k + m → pv (p * 8 + v) = pv (q * 8 + v)) → pu_lx pv p q (k + m) i = pu_lx pv p q k i := by
  intro k
  induction k with
  | zero => intro i h; rw [Nat.zero_add]; exact lx_zero m i (fun v h1 h2 => h v (by omega) (by omega))
  | succ k ih =>
    intro i h
    rw [show k + 1 + m = (k + m) + 1 by omega]
    unfold pu_lx
    rw [ih (i + 1) (fun v h1 h2 => h v (by omega) (by omega))]
theorem ls_ir (V : Nat) (pl pv : Nat → Int32) (p : Nat) : pu_ls V pl pv p p = false := by
  unfold pu_ls; rw [if_pos rfl]; exact lx_ir pv p V 0
theorem ls_tr {V : Nat} {pl pv : Nat → Int32} {p q r : Nat} (h1 : pu_ls V pl pv p q = true) (h2 : pu_ls V pl pv q r = true) : pu_ls V pl pv p r = true := by
  unfold pu_ls at *
  by_cases e1 : pl p = pl q
  · rw [if_pos e1] at h1
    by_cases e2 : pl q = pl r
    · rw [if_pos e2] at h2
      rw [if_pos (e1.trans e2)]; exact lx_tr pv p q r V 0 h1 h2
    · rw [if_neg e2] at h2
      rw [e1, if_neg e2]; exact h2
  · rw [if_neg e1] at h1
    by_cases e2 : pl q = pl r
    · rw [← e2, if_neg e1]; exact h1
    · rw [if_neg e2] at h2
      have c := Int32.lt_trans (of_decide_eq_true h1) (of_decide_eq_true h2)
      rw [if_neg (fun z => Int32.lt_irrefl (z ▸ c)), decide_eq_true c]
theorem ls_tot {V : Nat} {pl pv : Nat → Int32} {p q : Nat} (h1 : pu_ls V pl pv p q = false) (h2 : pu_ls V pl pv q p = false) : pl p = pl q ∧ ∀ v, v < V → pv (p * 8 + v) = pv (q * 8 + v) := by
  unfold pu_ls at *
  by_cases e1 : pl p = pl q
  · rw [if_pos e1] at h1
    rw [if_pos e1.symm] at h2
    exact ⟨e1, fun v hv => lx_tot pv p q V 0 h1 h2 v (by omega) (by omega)⟩
  · rw [if_neg e1] at h1
    rw [if_neg (fun z => e1 z.symm)] at h2
    have a := ar_lt (of_decide_eq_false h1)
    have b := ar_lt (of_decide_eq_false h2)
    exact absurd (Int32.le_antisymm b a) e1
def pu_rk (V n : Nat) (pl pv : Nat → Int32) (p : Nat) : Nat := pu_cn (fun q => pu_ls V pl pv q p) n
theorem rk_bd {V n : Nat} {pl pv : Nat → Int32} {p : Nat} (hp : p < n) : pu_rk V n pl pv p < n := cn_bdl _ n p hp (ls_ir V pl pv p)
theorem rk_lt {V n : Nat} {pl pv : Nat → Int32} {p q : Nat} (hp : p < n) (h : pu_ls V pl pv p q = true) : pu_rk V n pl pv p < pu_rk V n pl pv q :=
  cn_lt n p (fun r _ hr => ls_tr hr h) hp (ls_ir V pl pv p) h
theorem rk_inj {V n : Nat} {pl pv : Nat → Int32} (hd : ∀ p q, p < n → q < n → pl p = pl q → (∀ v, v < V → pv (p * 8 + v) = pv (q * 8 + v)) → p = q)
    (p q : Nat) (hp : p < n) (hq : q < n) (e : pu_rk V n pl pv p = pu_rk V n pl pv q) : p = q := by
  by_cases h1 : pu_ls V pl pv p q = true
  · have := rk_lt (n := n) hp h1; omega
  · by_cases h2 : pu_ls V pl pv q p = true
    · have := rk_lt (n := n) hq h2; omega
    · obtain ⟨a, b⟩ := ls_tot (Bool.eq_false_iff.mpr h1) (Bool.eq_false_iff.mpr h2)
      exact hd p q hp hq a b
theorem rk_sur {V n : Nat} {pl pv : Nat → Int32} (hd : ∀ p q, p < n → q < n → pl p = pl q → (∀ v, v < V → pv (p * 8 + v) = pv (q * 8 + v)) → p = q)
    {r : Nat} (hr : r < n) : ∃ p, p < n ∧ pu_rk V n pl pv p = r := pg_surj (fun _ hi => rk_bd hi) (rk_inj hd) hr
end
section
/-! levels of the division -/
def pu_lev (V : Nat) (mk : Nat → Int32) (dep : Nat → Nat → Prop) : Nat → Nat → Prop
  | 0, v => v < V ∧ mk v ≠ 0
  | k + 1, v => pu_lev V mk dep k v ∨ (v < V ∧ ∃ u, u < V ∧ dep v u ∧ pu_lev V mk dep k u)
section
variable {V : Nat} {mk : Nat → Int32} {dep : Nat → Nat → Prop}
theorem le_V : ∀ k v, pu_lev V mk dep k v → v < V := by
  intro k
  induction k with
  | zero => intro v h; exact h.1
  | succ k ih => intro v h; rcases h with h | h; exact ih v h; exact h.1
theorem le_mono : ∀ {j k : Nat} {v : Nat}, j ≤ k → pu_lev V mk dep j v → pu_lev V mk dep k v := by
  intro j k v h
  induction k with
  | zero => intro hv; rw [show j = 0 by omega] at hv; exact hv
  | succ k ih =>
    intro hv
    by_cases e : j = k + 1
    · rw [← e]; exact hv
    · exact Or.inl (ih (by omega) hv)
theorem le_fix {k : Nat} (h : ∀ v, pu_lev V mk dep (k + 1) v → pu_lev V mk dep k v) : ∀ j v, pu_lev V mk dep j v → pu_lev V mk dep k v := by
  intro j
  induction j with
  | zero => intro v hv; exact le_mono (by omega) hv
  | succ j ih =>
    intro v hv
    rcases hv with hv | ⟨h1, u, hu, hd, hl⟩
    · exact ih v hv
    · exact h v (Or.inr ⟨h1, u, hu, hd, ih u hl⟩)
noncomputable def pu_lb (V : Nat) (mk : Nat → Int32) (dep : Nat → Nat → Prop) (k v : Nat) : Bool := @decide (pu_lev V mk dep k v) (Classical.propDecidable _)
theorem lb_iff {k v : Nat} : pu_lb V mk dep k v = true ↔ pu_lev V mk dep k v := by
  unfold pu_lb
  exact @decide_eq_true_iff _ (Classical.propDecidable _)
theorem le_cnt : ∀ k, (∀ j, j < k → ∃ v, pu_lev V mk dep (j + 1) v ∧ ¬ pu_lev V mk dep j v) → k + pu_cn (pu_lb V mk dep 0) V ≤ pu_cn (pu_lb V mk dep k) V := by
  intro k
  induction k with
  | zero => intro _; omega
  | succ k ih =>
    intro h
    have h1 := ih (fun j hj => h j (by omega))
    obtain ⟨v, hv, hn⟩ := h k (by omega)
    have h2 := cn_lt (P := pu_lb V mk dep k) (Q := pu_lb V mk dep (k + 1)) V v (fun q _ hq => lb_iff.mpr (Or.inl (lb_iff.mp hq))) (le_V _ _ hv)
      (Bool.eq_false_iff.mpr (fun z => hn (lb_iff.mp z))) (lb_iff.mpr hv)
    omega
/-- after V - 1 steps nothing is new -/
theorem le_sat (hV : 1 ≤ V) : ∀ j v, pu_lev V mk dep j v → pu_lev V mk dep (V - 1) v := by
  by_cases hx : ∃ j, j < V ∧ ∀ v, pu_lev V mk dep (j + 1) v → pu_lev V mk dep j v
  · obtain ⟨j, hj, h⟩ := hx
    intro k v hv
    exact le_mono (by omega) (le_fix h k v hv)
  · exfalso
    have hx2 : ∀ j, j < V → ∃ v, pu_lev V mk dep (j + 1) v ∧ ¬ pu_lev V mk dep j v := by
      intro j hj
      apply Classical.byContradiction
      intro z
      exact hx ⟨j, hj, fun v hv => Classical.byContradiction fun z2 => z ⟨v, hv, z2⟩⟩
    have h1 := le_cnt V hx2
    have h2 := cn_bd (pu_lb V mk dep V) V
    have h3 : 0 < pu_cn (pu_lb V mk dep 0) V := by
      obtain ⟨v, hv, hn⟩ := hx2 0 (by omega)
      rcases hv with hv | ⟨hv, u, hu, hd, hl⟩
      · exact absurd hv hn
      · have h4 := cn_lt (P := fun _ => false) (Q := pu_lb V mk dep 0) V u (fun q _ hq => absurd hq (by decide)) hu rfl (lb_iff.mpr hl)
        omega
    omega
/-- the distance of v -/
def pu_dist (V : Nat) (mk : Nat → Int32) (dep : Nat → Nat → Prop) (v : Nat) (d : Int32) : Prop :=
  (∃ k, k < 8 ∧ pu_lev V mk dep k v ∧ (∀ j, j < k → ¬ pu_lev V mk dep j v) ∧ d = nI k) ∨ ((∀ k, ¬ pu_lev V mk dep k v) ∧ d = -1)
theorem di_uniq {v : Nat} {d e : Int32} (h1 : pu_dist V mk dep v d) (h2 : pu_dist V mk dep v e) : d = e := by
  rcases h1 with ⟨k, hk, a, b, rfl⟩ | ⟨a, rfl⟩
  · rcases h2 with ⟨k', hk', a', b', rfl⟩ | ⟨a', rfl⟩
    · have : k = k' := by
        rcases Nat.lt_trichotomy k k' with z | z | z
        · exact absurd a (b' k z)
        · exact z
        · exact absurd a' (b k' z)
      rw [this]
    · exact absurd a (a' k)
  · rcases h2 with ⟨k', hk', a', b', rfl⟩ | ⟨a', rfl⟩
    · exact absurd a' (a k')
    · rfl
theorem di_pos {v : Nat} {d : Int32} (h : pu_dist V mk dep v d) : 0 ≤ d ↔ ∃ k, pu_lev V mk dep k v := by
  rcases h with ⟨k, hk, a, b, rfl⟩ | ⟨a, rfl⟩
  · exact ⟨fun _ => ⟨k, a⟩, fun _ => nI_pos' (by omega)⟩
  · exact ⟨fun z => absurd z ar_neg1, fun ⟨k, hk⟩ => absurd hk (a k)⟩
/-- dependants of dynamic variables are dynamic -/
theorem di_cong {v u : Nat} {d e : Int32} (hv : v < V) (hu : u < V) (h1 : pu_dist V mk dep v d) (h2 : pu_dist V mk dep u e) (hd : dep v u) (he : 0 ≤ e) : 0 ≤ d := by
  obtain ⟨k, hk⟩ := (di_pos h2).mp he
  exact (di_pos h1).mpr ⟨k + 1, Or.inr ⟨hv, u, hu, hd, hk⟩⟩
/-- what X keeps at the head of level k: the least level up to k, or -1 -/
def pu_dk (V : Nat) (mk : Nat → Int32) (dep : Nat → Nat → Prop) (K v : Nat) (d : Int32) : Prop :=
  (∃ k, k ≤ K ∧ pu_lev V mk dep k v ∧ (∀ j, j < k → ¬ pu_lev V mk dep j v) ∧ d = nI k) ∨ ((¬ pu_lev V mk dep K v) ∧ d = -1)
theorem dk_end {v : Nat} {d : Int32} (hV : 1 ≤ V) (hV8 : V ≤ 8) (h : pu_dk V mk dep V v d) : pu_dist V mk dep v d := by
  rcases h with ⟨k, hk, a, b, rfl⟩ | ⟨a, rfl⟩
  · refine Or.inl ⟨k, ?_, a, b, rfl⟩
    apply Classical.byContradiction
    intro z
    exact b (V - 1) (by omega) (le_sat hV k v a)
  · exact Or.inr ⟨fun k hk => a (le_mono (by omega) (le_sat hV k v hk)), rfl⟩
theorem dk_0 {v : Nat} (hv : v < V) : pu_dk V mk dep 0 v (if mk v = 0 then -1 else 0) := by
  by_cases h : mk v = 0
  · rw [if_pos h]; exact Or.inr ⟨fun z => z.2 h, rfl⟩
  · rw [if_neg h]; exact Or.inl ⟨0, by omega, ⟨hv, h⟩, fun j hj => by omega, rfl⟩
theorem dk_neg {K v : Nat} {d : Int32} (hK : K < 100) (h : pu_dk V mk dep K v d) : 0 ≤ d ↔ pu_lev V mk dep K v := by
  rcases h with ⟨k, hk, a, b, rfl⟩ | ⟨a, rfl⟩
  · exact ⟨fun _ => le_mono hk a, fun _ => nI_pos' (by omega)⟩
  · exact ⟨fun z => absurd z ar_neg1, fun z => absurd z a⟩
theorem dk_at {K v : Nat} {d : Int32} (hK : K < 100) (h : pu_dk V mk dep K v d) : d = nI K ↔ (pu_lev V mk dep K v ∧ ∀ j, j < K → ¬ pu_lev V mk dep j v) := by
  rcases h with ⟨k, hk, a, b, rfl⟩ | ⟨a, rfl⟩
  · rw [nI_eq (by omega) (by omega)]
    constructor
    · intro e; subst e; exact ⟨a, b⟩
    · intro ⟨_, h2⟩
      apply Classical.byContradiction
      intro z
      exact h2 k (by omega) a
  · exact ⟨fun z => absurd z.symm (ar_ne1 (by omega)), fun z => absurd z.1 a⟩
/-- a step of level K at v -/
theorem dk_keep {K v : Nat} {d : Int32} (hK : K < 100) (h : pu_dk V mk dep K v d) (h0 : 0 ≤ d) : pu_dk V mk dep (K + 1) v d := by
  rcases h with ⟨k, hk, a, b, e⟩ | ⟨a, rfl⟩
  · exact Or.inl ⟨k, by omega, a, b, e⟩
  · exact absurd h0 ar_neg1
theorem dk_yes {K v : Nat} {d : Int32} (hK : K < 100) (hv : v < V) (h : pu_dk V mk dep K v d) (h0 : ¬ 0 ≤ d) (hx : ∃ u, u < V ∧ dep v u ∧ pu_lev V mk dep K u) : pu_dk V mk dep (K + 1) v (nI (K + 1)) := by
  refine Or.inl ⟨K + 1, Nat.le_refl _, Or.inr ⟨hv, hx⟩, fun j hj z => h0 ((dk_neg hK h).mpr (le_mono (by omega) z)), rfl⟩
theorem dk_no {K v : Nat} {d : Int32} (hK : K < 100) (h : pu_dk V mk dep K v d) (h0 : ¬ 0 ≤ d) (hx : ¬ ∃ u, u < V ∧ dep v u ∧ pu_lev V mk dep K u) : pu_dk V mk dep (K + 1) v d := by
  rcases h with ⟨k, hk, a, b, rfl⟩ | ⟨a, rfl⟩
  · exact absurd (nI_pos' (by omega)) h0
  · refine Or.inr ⟨?_, rfl⟩
    intro z
    rcases z with z | z
    · exact a z
    · exact hx z.2
/-- not yet reached: a dependence on a reached one is one on a new one -/
theorem dk_dep {K v u : Nat} (hv : v < V) (hn : ¬ pu_lev V mk dep K v) (hu : u < V) (hd : dep v u) (hl : pu_lev V mk dep K u) : ∀ j, j < K → ¬ pu_lev V mk dep j u :=
  fun _ hj z => hn (le_mono hj (Or.inr ⟨hv, u, hu, hd, z⟩))
end
/-! bits of a set of variables -/
def pu_has (s o : Int32) : Bool := decide (¬ o < 0 ∧ ((s >>> (o &&& 31)) &&& 1) = 1)
theorem b_1 : ∀ i, i < 32 → bt 1 i = decide (i = 0) := by decide +kernel
theorem ha_bt {s : Int32} {v : Nat} (hv : v < 32) : pu_has s (nI v) = bt s v := by
  have h0 : ¬ nI v < 0 := nI_pos (by omega)
  have key : ((s >>> (nI v &&& 31)) &&& 1) = 1 ↔ bt s v = true := by
    constructor
    · intro h
      have h2 : bt ((s >>> (nI v &&& 31)) &&& 1) 0 = true := by rw [h]; exact b_1 0 (by omega)
      rw [b_and, b_sshr v hv s (by omega), Nat.add_zero, if_pos hv] at h2
      exact ((Bool.and_eq_true _ _).mp h2).1
    · intro h
      apply b_ext
      intro i hi
      rw [b_and, b_1 i hi]
      by_cases e : i = 0
      · subst e
        rw [b_sshr v hv s (by omega), Nat.add_zero, if_pos hv, h]; rfl
      · rw [decide_eq_false e, Bool.and_false]
  unfold pu_has
  rw [decide_eq_decide.mpr (and_iff_right h0)]
  by_cases h : bt s v = true
  · rw [decide_eq_true (key.mpr h), h]
  · rw [decide_eq_false (fun z => h (key.mp z)), Bool.eq_false_iff.mpr h]
theorem ha_or {s : Int32} {v d : Nat} (hv : v < 32) (hd : d < 32) : pu_has (s ||| ((1 : Int32) <<< (nI d &&& 31))) (nI v) = (pu_has s (nI v) || decide (v = d)) := by
  rw [ha_bt hv, ha_bt hv, b_or, b_shl d hd 1 hv]
  congr 1
  by_cases e : v = d
  · subst e; rw [Nat.sub_self, b_1 0 (by omega), decide_eq_true (Nat.le_refl v), decide_eq_true (rfl : v = v)]; rfl
  · rw [decide_eq_false e]
    by_cases h : d ≤ v
    · rw [b_1 _ (by omega), decide_eq_false (by omega : ¬ v - d = 0), Bool.and_false]
    · rw [decide_eq_false h, Bool.false_and]
theorem ha_0 {v : Nat} (hv : v < 32) : pu_has 0 (nI v) = false := by rw [ha_bt hv, b_0]
theorem ha_neg {s o : Int32} (h : o < 0) : pu_has s o = false := decide_eq_false (fun z => z.1 h)
end
section
/-! the subject: rows, operands, statements -/
def pu_ov (st : Nat → Int32) (o : Int32) : Int32 := if 0 ≤ o then st o.toNatClampNeg else (-1) - o
def pu_rm (rom : Nat → Int32) (x : Int32) : Int32 := if x < 0 then 0 else if x ≤ 15 then rom x.toNatClampNeg else 0
def pu_ap (rom : Nat → Int32) (op x y : Int32) : Int32 :=
  if op = 0 then x + y else if op = 1 then x - y else if op = 2 then x * y
  else if op = 3 then (if y = 0 then 0 else x / y) else if op = 4 then (if y = 0 then 0 else x - x / y * y)
  else if op = 5 then x &&& y else if op = 6 then x ^^^ y else if op = 7 then (if y ≤ x then 0 else 1)
  else if op = 8 then (if x = y then 1 else 0) else pu_rm rom (x + y)
theorem ov_ext {V : Nat} {st st' : Nat → Int32} {o : Int32} (hV : V ≤ 8) (ho : pu_op V o) (h : ∀ v, v < V → st v = st' v) : pu_ov st o = pu_ov st' o := by
  unfold pu_ov
  rcases ho with a | ⟨j, hj, rfl⟩
  · rw [if_neg (ar_nle a), if_neg (ar_nle a)]
  · rw [if_pos (nI_pos' (by omega)), if_pos (nI_pos' (by omega)), nI_clamp (by omega), h j hj]
theorem ov_neg {st : Nat → Int32} {o : Int32} (h : o < 0) : pu_ov st o = (-1) - o := if_neg (ar_nle h)
theorem ov_var {st : Nat → Int32} {j : Nat} (h : j < 2 ^ 31) : pu_ov st (nI j) = st j := by
  unfold pu_ov; rw [if_pos (nI_pos' h), nI_clamp h]
/-- a statement's row -/
def pu_row (V : Nat) (cd : Nat → Int32) (r : Nat) : Prop :=
  (cd r = 1 ∧ (∃ d, d < V ∧ cd (r + 1) = nI d) ∧ (∃ o, o ≤ 9 ∧ cd (r + 2) = nI o) ∧ pu_op V (cd (r + 3)) ∧ pu_op V (cd (r + 4))) ∨ (cd r = 2 ∧ pu_op V (cd (r + 1)))
/-- a terminator's row -/
def pu_ter (V B : Nat) (cd : Nat → Int32) (t : Nat) : Prop :=
  (∀ f, f < 5 → cd (t + f) = 0) ∨ (cd t = 3 ∧ ∃ l, l < B ∧ cd (t + 1) = nI l) ∨ (cd t = 4 ∧ pu_op V (cd (t + 1)) ∧ (∃ l, l < B ∧ cd (t + 2) = nI l) ∧ ∃ l, l < B ∧ cd (t + 3) = nI l) ∨ (cd t = 5 ∧ pu_op V (cd (t + 1)))
/-- the two sources -/
def pu_src (V B L : Nat) (sz : Nat → Nat) (cd stmt cnt term : Nat → Int32) : Prop :=
  (∀ l, l < 16 → cnt l = nI (sz l) ∧ sz l ≤ L) ∧
  (∀ l i f, l < 16 → i < sz l → f < 5 → stmt ((l * 6 + i) * 5 + f) = cd (l * 35 + i * 5 + f)) ∧
  (∀ l f, l < 16 → f < 5 → term (l * 5 + f) = cd (l * 35 + sz l * 5 + f)) ∧
  (∀ l i, l < 16 → i < sz l → pu_row V cd (l * 35 + i * 5)) ∧
  (∀ l, l < 16 → pu_ter V B cd (l * 35 + sz l * 5)) ∧
  (∀ l i f, l < 16 → sz l < i → i < 7 → f < 5 → cd (l * 35 + i * 5 + f) = 0)
section
variable {V B L : Nat} {sz : Nat → Nat} {cd stmt cnt term : Nat → Int32}
theorem sr_cnt (h : pu_src V B L sz cd stmt cnt term) {l : Nat} (hl : l < 16) : cnt l = nI (sz l) := (h.1 l hl).1
theorem sr_sz (h : pu_src V B L sz cd stmt cnt term) {l : Nat} (hl : l < 16) : sz l ≤ L := (h.1 l hl).2
theorem sr_st (h : pu_src V B L sz cd stmt cnt term) {l i : Nat} (f : Nat) (hl : l < 16) (hi : i < sz l) (hf : f < 5) : stmt ((l * 6 + i) * 5 + f) = cd (l * 35 + i * 5 + f) := h.2.1 l i f hl hi hf
theorem sr_tm (h : pu_src V B L sz cd stmt cnt term) {l : Nat} (f : Nat) (hl : l < 16) (hf : f < 5) : term (l * 5 + f) = cd (l * 35 + sz l * 5 + f) := h.2.2.1 l f hl hf
theorem sr_row (h : pu_src V B L sz cd stmt cnt term) {l i : Nat} (hl : l < 16) (hi : i < sz l) : pu_row V cd (l * 35 + i * 5) := h.2.2.2.1 l i hl hi
theorem sr_ter (h : pu_src V B L sz cd stmt cnt term) {l : Nat} (hl : l < 16) : pu_ter V B cd (l * 35 + sz l * 5) := h.2.2.2.2.1 l hl
theorem sr_0 (h : pu_src V B L sz cd stmt cnt term) {l i f : Nat} (hl : l < 16) (hi : sz l < i) (h7 : i < 7) (hf : f < 5) : cd (l * 35 + i * 5 + f) = 0 := h.2.2.2.2.2 l i f hl hi h7 hf
end
/-- v depends directly on u -/
def pu_dep (sz : Nat → Nat) (cd : Nat → Int32) (v u : Nat) : Prop :=
  ∃ l i, l < 16 ∧ i < sz l ∧ cd (l * 35 + i * 5) = 1 ∧ cd (l * 35 + i * 5 + 1) = nI v ∧ (cd (l * 35 + i * 5 + 3) = nI u ∨ cd (l * 35 + i * 5 + 4) = nI u)
/-! how often -/
def pu_w (cd : Nat → Int32) (v u r : Nat) : Nat := if cd r = 1 ∧ cd (r + 1) = nI v then (if cd (r + 3) = nI u then 1 else 0) + (if cd (r + 4) = nI u then 1 else 0) else 0
def pu_ws (cd : Nat → Int32) (v u l : Nat) : Nat → Nat
  | 0 => 0
  | i + 1 => pu_ws cd v u l i + pu_w cd v u (l * 35 + i * 5)
def pu_us (cd : Nat → Int32) (sz : Nat → Nat) (v u : Nat) : Nat → Nat
  | 0 => 0
  | l + 1 => pu_us cd sz v u l + pu_ws cd v u l (sz l)
theorem w_le (cd : Nat → Int32) (v u r : Nat) : pu_w cd v u r ≤ 2 := by
  unfold pu_w; split; split <;> split <;> omega; omega
theorem w_pos {cd : Nat → Int32} {v u r : Nat} : 0 < pu_w cd v u r ↔ (cd r = 1 ∧ cd (r + 1) = nI v ∧ (cd (r + 3) = nI u ∨ cd (r + 4) = nI u)) := by
  unfold pu_w
  by_cases h : cd r = 1 ∧ cd (r + 1) = nI v
  · rw [if_pos h]
    by_cases a : cd (r + 3) = nI u
    · rw [if_pos a]; exact ⟨fun _ => ⟨h.1, h.2, Or.inl a⟩, fun _ => by omega⟩
    · by_cases b : cd (r + 4) = nI u
      · rw [if_neg a, if_pos b]; exact ⟨fun _ => ⟨h.1, h.2, Or.inr b⟩, fun _ => by omega⟩
      · rw [if_neg a, if_neg b]; exact ⟨fun z => by omega, fun z => by rcases z.2.2 with z | z; exact absurd z a; exact absurd z b⟩
  · rw [if_neg h]; exact ⟨fun z => by omega, fun z => absurd ⟨z.1, z.2.1⟩ h⟩
theorem ws_le (cd : Nat → Int32) (v u l : Nat) : ∀ i, pu_ws cd v u l i ≤ 2 * i := by
  intro i
  induction i with
  | zero => exact Nat.le_refl 0
  | succ i ih => unfold pu_ws; have := w_le cd v u (l * 35 + i * 5); omega
theorem ws_pos {cd : Nat → Int32} {v u l : Nat} : ∀ i, 0 < pu_ws cd v u l i ↔ ∃ j, j < i ∧ 0 < pu_w cd v u (l * 35 + j * 5) := by
  intro i
  induction i with
  | zero => exact ⟨fun z => absurd z (Nat.lt_irrefl 0), fun ⟨j, hj, _⟩ => by omega⟩
  | succ i ih =>
    unfold pu_ws
    constructor
    · intro h
      by_cases z : 0 < pu_ws cd v u l i
      · obtain ⟨j, hj, hw⟩ := ih.mp z; exact ⟨j, by omega, hw⟩
      · exact ⟨i, by omega, by omega⟩
    · intro ⟨j, hj, hw⟩
      by_cases e : j = i
      · subst e; omega
      · have := ih.mpr ⟨j, by omega, hw⟩; omega
theorem us_pos {cd : Nat → Int32} {sz : Nat → Nat} {v u : Nat} : ∀ m, 0 < pu_us cd sz v u m ↔ ∃ l, l < m ∧ 0 < pu_ws cd v u l (sz l) := by
  intro m
  induction m with
  | zero => exact ⟨fun z => absurd z (Nat.lt_irrefl 0), fun ⟨j, hj, _⟩ => by omega⟩
  | succ m ih =>
    unfold pu_us
    constructor
    · intro h
      by_cases z : 0 < pu_us cd sz v u m
      · obtain ⟨j, hj, hw⟩ := ih.mp z; exact ⟨j, by omega, hw⟩
      · exact ⟨m, by omega, by omega⟩
    · intro ⟨j, hj, hw⟩
      by_cases e : j = m
      · subst e; omega
      · have := ih.mpr ⟨j, by omega, hw⟩; omega
theorem us_dep {cd : Nat → Int32} {sz : Nat → Nat} {v u : Nat} : 0 < pu_us cd sz v u 16 ↔ pu_dep sz cd v u := by
  rw [us_pos]
  constructor
  · intro ⟨l, hl, h⟩
    obtain ⟨i, hi, hw⟩ := (ws_pos _).mp h
    obtain ⟨a, b, c⟩ := w_pos.mp hw
    exact ⟨l, i, hl, hi, a, b, c⟩
  · intro ⟨l, i, hl, hi, a, b, c⟩
    exact ⟨l, hl, (ws_pos _).mpr ⟨i, hi, w_pos.mpr ⟨a, b, c⟩⟩⟩
theorem us_le {cd : Nat → Int32} {sz : Nat → Nat} {v u : Nat} : ∀ m, (∀ l, l < m → sz l ≤ 6) → pu_us cd sz v u m ≤ 12 * m := by
  intro m
  induction m with
  | zero => intro _; exact Nat.le_refl 0
  | succ m ih =>
    intro h
    unfold pu_us
    have h1 := ih (fun l hl => h l (by omega))
    have h2 := ws_le cd v u m (sz m)
    have h3 := h m (by omega)
    omega
/-- one block's rows change -/
theorem us_upd {cd cd' : Nat → Int32} {sz sz' : Nat → Nat} {v u C N : Nat} (h : ∀ l, l ≠ C → l < N → pu_ws cd' v u l (sz' l) = pu_ws cd v u l (sz l)) :
    ∀ m, m ≤ N → (m ≤ C → pu_us cd' sz' v u m = pu_us cd sz v u m) ∧ (C < m → pu_us cd' sz' v u m + pu_ws cd v u C (sz C) = pu_us cd sz v u m + pu_ws cd' v u C (sz' C)) := by
  intro m
  induction m with
  | zero => intro _; exact ⟨fun _ => rfl, fun z => by omega⟩
  | succ m ih =>
    intro hN
    have ih := ih (by omega)
    unfold pu_us
    constructor
    · intro hm; rw [ih.1 (by omega), h m (by omega) (by omega)]
    · intro hm
      by_cases e : m = C
      · subst e; rw [ih.1 (by omega)]; omega
      · have := ih.2 (by omega); rw [h m e (by omega)]; omega
theorem us_upd16 {cd cd' : Nat → Int32} {sz sz' : Nat → Nat} {v u C : Nat} (h : ∀ l, l ≠ C → l < 16 → pu_ws cd' v u l (sz' l) = pu_ws cd v u l (sz l)) (hC : C < 16) :
    pu_us cd' sz' v u 16 + pu_ws cd v u C (sz C) = pu_us cd sz v u 16 + pu_ws cd' v u C (sz' C) := (us_upd h 16 (Nat.le_refl _)).2 hC
theorem ws_ext {cd cd' : Nat → Int32} {v u l : Nat} : ∀ i, (∀ j f, j < i → f < 5 → cd' (l * 35 + j * 5 + f) = cd (l * 35 + j * 5 + f)) → pu_ws cd' v u l i = pu_ws cd v u l i := by
  intro i
  induction i with
  | zero => intro _; rfl
  | succ i ih =>
    intro h
    unfold pu_ws pu_w
    rw [ih (fun j f hj hf => h j f (by omega) hf), h i 1 (by omega) (by omega), h i 3 (by omega) (by omega), h i 4 (by omega) (by omega)]
    have := h i 0 (by omega) (by omega)
    rw [Nat.add_zero] at this
    rw [this]
/-! statements: static part on a store, all on a machine -/
def pu_s1 (cd rom : Nat → Int32) (D : Nat → Bool) (r : Nat) (st : Nat → Int32) : Nat → Int32 :=
  if cd r = 1 ∧ D (cd (r + 1)).toNatClampNeg = false then upd st (cd (r + 1)).toNatClampNeg (pu_ap rom (cd (r + 2)) (pu_ov st (cd (r + 3))) (pu_ov st (cd (r + 4)))) else st
def pu_sn (cd rom : Nat → Int32) (D : Nat → Bool) (l : Nat) (st : Nat → Int32) : Nat → (Nat → Int32)
  | 0 => st
  | i + 1 => pu_s1 cd rom D (l * 35 + i * 5) (pu_sn cd rom D l st i)
def pu_e1 (cd rom : Nat → Int32) (m r : Nat) (w : (Nat → Int32) × Int32 × (Nat → Int32)) : (Nat → Int32) × Int32 × (Nat → Int32) :=
  if cd r = 1 then (upd w.1 (cd (r + 1)).toNatClampNeg (pu_ap rom (cd (r + 2)) (pu_ov w.1 (cd (r + 3))) (pu_ov w.1 (cd (r + 4)))), w.2.1, w.2.2)
  else (w.1, (if 1000000 ≤ w.2.1 then w.2.1 else w.2.1 + 1), (if 32 ≤ w.2.1 then w.2.2 else upd w.2.2 (m * 32 + w.2.1.toNatClampNeg) (pu_ov w.1 (cd (r + 1)))))
def pu_en (cd rom : Nat → Int32) (m l : Nat) (w : (Nat → Int32) × Int32 × (Nat → Int32)) : Nat → ((Nat → Int32) × Int32 × (Nat → Int32))
  | 0 => w
  | i + 1 => pu_e1 cd rom m (l * 35 + i * 5) (pu_en cd rom m l w i)
/-- a static run touches variables alone, and keeps what is dynamic or no variable -/
theorem sn_keep {V : Nat} {cd rom : Nat → Int32} {D : Nat → Bool} {l : Nat} {st : Nat → Int32} (hV : V ≤ 8) : ∀ i, (∀ j, j < i → pu_row V cd (l * 35 + j * 5)) → ∀ v, (D v = true ∨ V ≤ v) → pu_sn cd rom D l st i v = st v := by
  intro i
  induction i with
  | zero => intro _ v _; rfl
  | succ i ih =>
    intro h v hv
    have h1 := ih (fun j hj => h j (by omega)) v hv
    show pu_s1 cd rom D (l * 35 + i * 5) (pu_sn cd rom D l st i) v = st v
    unfold pu_s1
    split
    · next hc =>
      rcases h i (by omega) with ⟨_, ⟨d, hd, e⟩, _⟩ | ⟨z, _⟩
      · rw [e, nI_clamp (by omega)] at hc
        rw [e, nI_clamp (by omega)]
        rw [pk_un (by intro z; subst z; rcases hv with z | z; rw [hc.2] at z; exact absurd z (by decide); omega), h1]
      · rw [hc.1] at z; exact absurd z (by decide)
    · exact h1
/-- the count of outputs stays in its range -/
def pu_oc (x : Int32) : Prop := ∃ k, k ≤ 1000000 ∧ x = nI k
theorem oc_e1 {cd rom : Nat → Int32} {m r : Nat} {w : (Nat → Int32) × Int32 × (Nat → Int32)} (h : pu_oc w.2.1) : pu_oc (pu_e1 cd rom m r w).2.1 := by
  unfold pu_e1
  split
  · exact h
  · obtain ⟨k, hk, e⟩ := h
    dsimp only
    by_cases z : (1000000 : Int32) ≤ w.2.1
    · rw [if_pos z]; exact ⟨k, hk, e⟩
    · rw [if_neg z, e, ar_a1]
      refine ⟨k + 1, ?_, rfl⟩
      rw [e] at z
      apply Classical.byContradiction
      intro y
      exact z (nI_le (a := 1000000) (by omega) (by omega))
theorem oc_en {cd rom : Nat → Int32} {m l : Nat} {w : (Nat → Int32) × Int32 × (Nat → Int32)} (h : pu_oc w.2.1) : ∀ i, pu_oc (pu_en cd rom m l w i).2.1 := by
  intro i
  induction i with
  | zero => exact h
  | succ i ih => exact oc_e1 ih
/-- the machine's store and the static one: a statement keeps them together -/
theorem e1_stat {V : Nat} {cd rom : Nat → Int32} {D : Nat → Bool} {m r : Nat} {w : (Nat → Int32) × Int32 × (Nat → Int32)} {st : Nat → Int32} (hV : V ≤ 8)
    (hr : pu_row V cd r) (hcong : ∀ d u, d < V → u < V → cd r = 1 → cd (r + 1) = nI d → (cd (r + 3) = nI u ∨ cd (r + 4) = nI u) → D u = true → D d = true)
    (h : ∀ v, v < V → D v = false → w.1 v = st v) : ∀ v, v < V → D v = false → (pu_e1 cd rom m r w).1 v = pu_s1 cd rom D r st v := by
  intro v hv hD
  unfold pu_e1 pu_s1
  rcases hr with ⟨h1, ⟨d, hd, e⟩, _, h3, h4⟩ | ⟨h2, _⟩
  · rw [if_pos h1]
    dsimp only
    rw [e, nI_clamp (by omega)]
    by_cases hDd : D d = false
    · rw [if_pos ⟨h1, hDd⟩]
      have hov : ∀ o, pu_op V o → (o = cd (r + 3) ∨ o = cd (r + 4)) → pu_ov w.1 o = pu_ov st o := by
        intro o ho hw
        rcases ho with a | ⟨j, hj, ej⟩
        · rw [ov_neg a, ov_neg a]
        · rw [ej, ov_var (by omega), ov_var (by omega)]
          apply h j hj
          apply Bool.eq_false_iff.mpr
          intro z
          have := hcong d j hd hj h1 e (by rcases hw with y | y; exact Or.inl (by rw [← y, ej]); exact Or.inr (by rw [← y, ej])) z
          rw [hDd] at this
          exact absurd this (by decide)
      rw [hov _ h3 (Or.inl rfl), hov _ h4 (Or.inr rfl)]
      by_cases z : v = d
      · rw [z, pk_us, pk_us]
      · rw [pk_un z, pk_un z, h v hv hD]
    · rw [if_neg (fun z => hDd z.2), pk_un (by intro z; rw [z] at hD; exact hDd hD), h v hv hD]
  · rw [if_neg (by rw [h2]; decide)]
    dsimp only
    rw [if_neg (fun z => absurd (h2.symm.trans z.1) (by decide))]
    exact h v hv hD
end
section
section
variable {V B L Q : Nat} {f_residualMachine f_directMachine f_work f_opMove f_opOut f_countCap f_cursorLabel f_residual f_found f_codeSize : Int32} {a_stmt a_stmtCount a_term a_rom a_initial a_marked a_uses a_dist a_ptLabel a_ptKind a_ptFirst a_ptSecond a_before a_after a_exitOf a_head a_rankOf a_byRank a_codeStart a_codeEnd a_codeOp a_codeDst a_codeMode a_codeX a_codeY a_values a_status a_result a_forks a_outCount a_output a_place : Nat → Int32}
theorem ar_in16 {x : Int32} (h : ¬ x < 0) (h2 : x ≤ 15) : vp_in x 16 := by
  obtain ⟨j, hj, rfl⟩ := nI_of2 (M := 15) (n := 15) (by decide) h h2
  exact vp_in_nI (by omega) (by omega)
theorem xw_var1 {post : Int32 → Prop} {j : Nat} (hj : j < V) (hV : V ≤ 8) (K : post 1) : wpX_isVar post ((nI V), (nI B), (nI L), (nI Q), f_residualMachine, f_directMachine, f_work, f_opMove, f_opOut, f_countCap, f_cursorLabel, f_residual, f_found, f_codeSize, a_stmt, a_stmtCount, a_term, a_rom, a_initial, a_marked, a_uses, a_dist, a_ptLabel, a_ptKind, a_ptFirst, a_ptSecond, a_before, a_after, a_exitOf, a_head, a_rankOf, a_byRank, a_codeStart, a_codeEnd, a_codeOp, a_codeDst, a_codeMode, a_codeX, a_codeY, a_values, a_status, a_result, a_forks, a_outCount, a_output, a_place) (nI j) :=
  br_f (nI_pos (by omega)) (br_f (nI_ge hj (by omega)) K)
theorem xw_var0 {post : Int32 → Prop} {x : Int32} (h : x < 0 ∨ nI V ≤ x) (K : post 0) : wpX_isVar post ((nI V), (nI B), (nI L), (nI Q), f_residualMachine, f_directMachine, f_work, f_opMove, f_opOut, f_countCap, f_cursorLabel, f_residual, f_found, f_codeSize, a_stmt, a_stmtCount, a_term, a_rom, a_initial, a_marked, a_uses, a_dist, a_ptLabel, a_ptKind, a_ptFirst, a_ptSecond, a_before, a_after, a_exitOf, a_head, a_rankOf, a_byRank, a_codeStart, a_codeEnd, a_codeOp, a_codeDst, a_codeMode, a_codeX, a_codeY, a_values, a_status, a_result, a_forks, a_outCount, a_output, a_place) x := by
  by_cases h0 : x < 0
  · exact br_t h0 K
  · exact br_f h0 (br_t (h.resolve_left h0) K)
theorem xw_lab1 {post : Int32 → Prop} {j : Nat} (hj : j < B) (hB : B ≤ 16) (K : post 1) : wpX_isLabel post ((nI V), (nI B), (nI L), (nI Q), f_residualMachine, f_directMachine, f_work, f_opMove, f_opOut, f_countCap, f_cursorLabel, f_residual, f_found, f_codeSize, a_stmt, a_stmtCount, a_term, a_rom, a_initial, a_marked, a_uses, a_dist, a_ptLabel, a_ptKind, a_ptFirst, a_ptSecond, a_before, a_after, a_exitOf, a_head, a_rankOf, a_byRank, a_codeStart, a_codeEnd, a_codeOp, a_codeDst, a_codeMode, a_codeX, a_codeY, a_values, a_status, a_result, a_forks, a_outCount, a_output, a_place) (nI j) :=
  br_f (nI_pos (by omega)) (br_f (nI_ge hj (by omega)) K)
theorem xw_lab0 {post : Int32 → Prop} {x : Int32} (h : x < 0 ∨ nI B ≤ x) (K : post 0) : wpX_isLabel post ((nI V), (nI B), (nI L), (nI Q), f_residualMachine, f_directMachine, f_work, f_opMove, f_opOut, f_countCap, f_cursorLabel, f_residual, f_found, f_codeSize, a_stmt, a_stmtCount, a_term, a_rom, a_initial, a_marked, a_uses, a_dist, a_ptLabel, a_ptKind, a_ptFirst, a_ptSecond, a_before, a_after, a_exitOf, a_head, a_rankOf, a_byRank, a_codeStart, a_codeEnd, a_codeOp, a_codeDst, a_codeMode, a_codeX, a_codeY, a_values, a_status, a_result, a_forks, a_outCount, a_output, a_place) x := by
  by_cases h0 : x < 0
  · exact br_t h0 K
  · exact br_f h0 (br_t (h.resolve_left h0) K)
theorem xw_opd1 {post : Int32 → Prop} {x : Int32} (h : x < nI V) (K : post 1) : wpX_isOperand post ((nI V), (nI B), (nI L), (nI Q), f_residualMachine, f_directMachine, f_work, f_opMove, f_opOut, f_countCap, f_cursorLabel, f_residual, f_found, f_codeSize, a_stmt, a_stmtCount, a_term, a_rom, a_initial, a_marked, a_uses, a_dist, a_ptLabel, a_ptKind, a_ptFirst, a_ptSecond, a_before, a_after, a_exitOf, a_head, a_rankOf, a_byRank, a_codeStart, a_codeEnd, a_codeOp, a_codeDst, a_codeMode, a_codeX, a_codeY, a_values, a_status, a_result, a_forks, a_outCount, a_output, a_place) x := br_f (ar_nle h) K
theorem xw_opd0 {post : Int32 → Prop} {x : Int32} (h : ¬ x < nI V) (K : post 0) : wpX_isOperand post ((nI V), (nI B), (nI L), (nI Q), f_residualMachine, f_directMachine, f_work, f_opMove, f_opOut, f_countCap, f_cursorLabel, f_residual, f_found, f_codeSize, a_stmt, a_stmtCount, a_term, a_rom, a_initial, a_marked, a_uses, a_dist, a_ptLabel, a_ptKind, a_ptFirst, a_ptSecond, a_before, a_after, a_exitOf, a_head, a_rankOf, a_byRank, a_codeStart, a_codeEnd, a_codeOp, a_codeDst, a_codeMode, a_codeX, a_codeY, a_values, a_status, a_result, a_forks, a_outCount, a_output, a_place) x := br_t (ar_lt h) K
theorem xw_romAt {post : Int32 → Prop} {x : Int32} (K : post (pu_rm a_rom x)) : wpX_romAt post ((nI V), (nI B), (nI L), (nI Q), f_residualMachine, f_directMachine, f_work, f_opMove, f_opOut, f_countCap, f_cursorLabel, f_residual, f_found, f_codeSize, a_stmt, a_stmtCount, a_term, a_rom, a_initial, a_marked, a_uses, a_dist, a_ptLabel, a_ptKind, a_ptFirst, a_ptSecond, a_before, a_after, a_exitOf, a_head, a_rankOf, a_byRank, a_codeStart, a_codeEnd, a_codeOp, a_codeDst, a_codeMode, a_codeX, a_codeY, a_values, a_status, a_result, a_forks, a_outCount, a_output, a_place) x := by
  unfold pu_rm at K
  refine br_c (fun h => ?_) (fun h => ?_)
  · rw [if_pos h] at K; exact K
  · rw [if_neg h] at K
    refine br_c (fun h2 => ?_) (fun h2 => ?_)
    · rw [if_pos h2] at K; exact ⟨ar_in16 h h2, K⟩
    · rw [if_neg h2] at K; exact K
theorem xw_apply {post : Int32 → Prop} {op x y : Int32} (h0 : ¬ op < 0) (K : post (pu_ap a_rom op x y)) : wpX_apply post ((nI V), (nI B), (nI L), (nI Q), f_residualMachine, f_directMachine, f_work, f_opMove, f_opOut, f_countCap, f_cursorLabel, f_residual, f_found, f_codeSize, a_stmt, a_stmtCount, a_term, a_rom, a_initial, a_marked, a_uses, a_dist, a_ptLabel, a_ptKind, a_ptFirst, a_ptSecond, a_before, a_after, a_exitOf, a_head, a_rankOf, a_byRank, a_codeStart, a_codeEnd, a_codeOp, a_codeDst, a_codeMode, a_codeX, a_codeY, a_values, a_status, a_result, a_forks, a_outCount, a_output, a_place) op x y := by
  unfold pu_ap at K
  refine br_f h0 (br_c (fun h8 => ?_) (fun h8 => ?_))
  · refine xw_romAt ?_
    rw [if_neg (fun e => by rw [e] at h8; exact absurd h8 (by decide)), if_neg (fun e => by rw [e] at h8; exact absurd h8 (by decide)), if_neg (fun e => by rw [e] at h8; exact absurd h8 (by decide)),
      if_neg (fun e => by rw [e] at h8; exact absurd h8 (by decide)), if_neg (fun e => by rw [e] at h8; exact absurd h8 (by decide)), if_neg (fun e => by rw [e] at h8; exact absurd h8 (by decide)),
      if_neg (fun e => by rw [e] at h8; exact absurd h8 (by decide)), if_neg (fun e => by rw [e] at h8; exact absurd h8 (by decide)), if_neg (fun e => by rw [e] at h8; exact absurd h8 (by decide))] at K
    exact K
  · refine br_c (fun e => ?_) (fun e0 => ?_)
    · rw [if_pos e] at K; exact K
    rw [if_neg e0] at K
    refine br_c (fun e => ?_) (fun e1 => ?_)
    · rw [if_pos e] at K; exact K
    rw [if_neg e1] at K
    refine br_c (fun e => ?_) (fun e2 => ?_)
    · rw [if_pos e] at K; exact K
    rw [if_neg e2] at K
    refine br_c (fun e => ?_) (fun e3 => ?_)
    · rw [if_pos e] at K
      refine br_c (fun z => ?_) (fun z => ?_)
      · rw [if_pos z] at K; exact K
      · rw [if_neg z] at K; exact ⟨z, K⟩
    rw [if_neg e3] at K
    refine br_c (fun e => ?_) (fun e4 => ?_)
    · rw [if_pos e] at K
      refine br_c (fun z => ?_) (fun z => ?_)
      · rw [if_pos z] at K; exact K
      · rw [if_neg z] at K; exact ⟨z, K⟩
    rw [if_neg e4] at K
    refine br_c (fun e => ?_) (fun e5 => ?_)
    · rw [if_pos e] at K; exact K
    rw [if_neg e5] at K
    refine br_c (fun e => ?_) (fun e6 => ?_)
    · rw [if_pos e] at K; exact K
    rw [if_neg e6] at K
    refine br_c (fun e => ?_) (fun e7 => ?_)
    · rw [if_pos e] at K
      refine br_c (fun z => ?_) (fun z => ?_)
      · rw [if_pos z] at K; exact K
      · rw [if_neg z] at K; exact K
    rw [if_neg e7] at K
    refine br_c (fun e => ?_) (fun e8 => True.intro)
    rw [if_pos e] at K
    refine br_c (fun z => ?_) (fun z => ?_)
    · rw [if_pos z] at K; exact K
    · rw [if_neg z] at K; exact K
theorem xw_operand {post : Int32 → Prop} {o o' : Int32} {b : Nat} (eo : o' = o) (hV : V ≤ 8) (hb : b ≤ 16) (ho : pu_op V o) (K : post (pu_ov (fun v => a_values (b + v)) o)) : wpX_operand post ((nI V), (nI B), (nI L), (nI Q), f_residualMachine, f_directMachine, f_work, f_opMove, f_opOut, f_countCap, f_cursorLabel, f_residual, f_found, f_codeSize, a_stmt, a_stmtCount, a_term, a_rom, a_initial, a_marked, a_uses, a_dist, a_ptLabel, a_ptKind, a_ptFirst, a_ptSecond, a_before, a_after, a_exitOf, a_head, a_rankOf, a_byRank, a_codeStart, a_codeEnd, a_codeOp, a_codeDst, a_codeMode, a_codeX, a_codeY, a_values, a_status, a_result, a_forks, a_outCount, a_output, a_place) o' (nI b) := by
  subst eo
  rcases ho with h | ⟨j, hj, rfl⟩
  · rw [ov_neg h] at K; exact br_f (ar_nle h) K
  · rw [ov_var (by omega)] at K
    refine br_t (nI_pos' (by omega)) (And.intro ?_ ?_)
    · rw [nI_add]; exact vp_in_nI (by omega) (by omega)
    · rw [nI_add, nI_clamp (by omega)]; exact K
theorem xw_assignOn {post : SX → Prop} {k b r d : Nat} {cd : Nat → Int32} (hV : V ≤ 8) (hb : b ≤ 16) (hk : k + 4 < 480) (E : ∀ f, f < 5 → a_stmt (k + f) = cd (r + f)) (hd : d < V)
    (ed : cd (r + 1) = nI d) (hop : ∃ o, o ≤ 9 ∧ cd (r + 2) = nI o) (h3 : pu_op V (cd (r + 3))) (h4 : pu_op V (cd (r + 4)))
    (K : post ((nI V), (nI B), (nI L), (nI Q), f_residualMachine, f_directMachine, f_work, f_opMove, f_opOut, f_countCap, f_cursorLabel, f_residual, f_found, f_codeSize, a_stmt, a_stmtCount, a_term, a_rom, a_initial, a_marked, a_uses, a_dist, a_ptLabel, a_ptKind, a_ptFirst, a_ptSecond, a_before, a_after, a_exitOf, a_head, a_rankOf, a_byRank, a_codeStart, a_codeEnd, a_codeOp, a_codeDst, a_codeMode, a_codeX, a_codeY, (upd a_values (b + d) (pu_ap a_rom (cd (r + 2)) (pu_ov (fun v => a_values (b + v)) (cd (r + 3))) (pu_ov (fun v => a_values (b + v)) (cd (r + 4))))), a_status, a_result, a_forks, a_outCount, a_output, a_place)) : wpX_assignOn post ((nI V), (nI B), (nI L), (nI Q), f_residualMachine, f_directMachine, f_work, f_opMove, f_opOut, f_countCap, f_cursorLabel, f_residual, f_found, f_codeSize, a_stmt, a_stmtCount, a_term, a_rom, a_initial, a_marked, a_uses, a_dist, a_ptLabel, a_ptKind, a_ptFirst, a_ptSecond, a_before, a_after, a_exitOf, a_head, a_rankOf, a_byRank, a_codeStart, a_codeEnd, a_codeOp, a_codeDst, a_codeMode, a_codeX, a_codeY, a_values, a_status, a_result, a_forks, a_outCount, a_output, a_place) (nI k) (nI b) := by
  have e1 : a_stmt (nI k + 1).toNatClampNeg = nI d := by rw [ar_a1, nI_clamp (by omega), E 1 (by omega), ed]
  have e2 : a_stmt (nI k + 2).toNatClampNeg = cd (r + 2) := by rw [ar_a2, nI_clamp (by omega), E 2 (by omega)]
  have e3 : a_stmt (nI k + 3).toNatClampNeg = cd (r + 3) := by rw [ar_a3, nI_clamp (by omega), E 3 (by omega)]
  have e4 : a_stmt (nI k + 4).toNatClampNeg = cd (r + 4) := by rw [ar_a4, nI_clamp (by omega), E 4 (by omega)]
  have i1 : vp_in (nI k + 1) 480 := by rw [ar_a1]; exact vp_in_nI (by omega) (by omega)
  have i2 : vp_in (nI k + 2) 480 := by rw [ar_a2]; exact vp_in_nI (by omega) (by omega)
  have i3 : vp_in (nI k + 3) 480 := by rw [ar_a3]; exact vp_in_nI (by omega) (by omega)
  have i4 : vp_in (nI k + 4) 480 := by rw [ar_a4]; exact vp_in_nI (by omega) (by omega)
  refine And.intro i3 (xw_operand e3 hV hb h3 (And.intro i4 (xw_operand e4 hV hb h4 (And.intro i1 (And.intro i2 (xw_apply ?_ (And.intro ?_ ?_)))))))
  · rw [e2]; obtain ⟨o, ho, e⟩ := hop; rw [e]; exact nI_pos (by omega)
  · rw [e1, nI_add]; exact vp_in_nI (by omega) (by omega)
  · refine nm_r (e' := upd a_values (b + d) (pu_ap a_rom (cd (r + 2)) (pu_ov (fun v => a_values (b + v)) (cd (r + 3))) (pu_ov (fun v => a_values (b + v)) (cd (r + 4))))) ?_ K
    rw [e1, e2, nI_add, nI_clamp (by omega)]
theorem xw_send {post : SX → Prop} {m : Nat} {x : Int32} (hm : m < 2) (ho : pu_oc (a_outCount m))
    (K : post ((nI V), (nI B), (nI L), (nI Q), f_residualMachine, f_directMachine, f_work, f_opMove, f_opOut, f_countCap, f_cursorLabel, f_residual, f_found, f_codeSize, a_stmt, a_stmtCount, a_term, a_rom, a_initial, a_marked, a_uses, a_dist, a_ptLabel, a_ptKind, a_ptFirst, a_ptSecond, a_before, a_after, a_exitOf, a_head, a_rankOf, a_byRank, a_codeStart, a_codeEnd, a_codeOp, a_codeDst, a_codeMode, a_codeX, a_codeY, a_values, a_status, a_result, a_forks, (upd a_outCount m (if 1000000 ≤ a_outCount m then a_outCount m else a_outCount m + 1)), (if 32 ≤ a_outCount m then a_output else upd a_output (m * 32 + (a_outCount m).toNatClampNeg) x), a_place)) : wpX_send post ((nI V), (nI B), (nI L), (nI Q), f_residualMachine, f_directMachine, f_work, f_opMove, f_opOut, f_countCap, f_cursorLabel, f_residual, f_found, f_codeSize, a_stmt, a_stmtCount, a_term, a_rom, a_initial, a_marked, a_uses, a_dist, a_ptLabel, a_ptKind, a_ptFirst, a_ptSecond, a_before, a_after, a_exitOf, a_head, a_rankOf, a_byRank, a_codeStart, a_codeEnd, a_codeOp, a_codeDst, a_codeMode, a_codeX, a_codeY, a_values, a_status, a_result, a_forks, a_outCount, a_output, a_place) (nI m) x := by
  have im : vp_in (nI m) 2 := vp_in_nI hm (by omega)
  have ec : (nI m).toNatClampNeg = m := nI_clamp (by omega)
  refine And.intro im (nm_r (e' := a_outCount m) (by rw [ec]) (br_c (fun h => ?_) (fun h => ?_)))
  · rw [if_pos h] at K
    refine br_c (fun h2 => ?_) (fun h2 => And.intro im (nm_r (e' := upd a_outCount m (a_outCount m + 1)) (by rw [ec]) ?_))
    · rw [if_pos h2, ar_upd_self rfl] at K; exact K
    · rw [if_neg h2] at K; exact K
  · rw [if_neg h] at K
    obtain ⟨k, hk, e⟩ := ho
    have hk32 : k < 32 := by
      apply Classical.byContradiction
      intro z
      exact h (by rw [e]; exact nI_le (a := 32) (by omega) (by omega))
    refine And.intro ?_ (nm_r (e' := upd a_output (m * 32 + (a_outCount m).toNatClampNeg) x) ?_ ?_)
    · rw [e, ar_m32]; exact vp_in_nI (by omega) (by omega)
    · rw [e, ar_m32, nI_clamp (by omega), nI_clamp (by omega)]
    refine br_c (fun h2 => ?_) (fun h2 => And.intro im (nm_r (e' := upd a_outCount m (a_outCount m + 1)) (by rw [ec]) ?_))
    · rw [if_pos h2, ar_upd_self rfl] at K; exact K
    · rw [if_neg h2] at K; exact K
theorem xw_countFork {post : SX → Prop} {m : Nat} (hm : m < 2)
    (K : post ((nI V), (nI B), (nI L), (nI Q), f_residualMachine, f_directMachine, f_work, f_opMove, f_opOut, f_countCap, f_cursorLabel, f_residual, f_found, f_codeSize, a_stmt, a_stmtCount, a_term, a_rom, a_initial, a_marked, a_uses, a_dist, a_ptLabel, a_ptKind, a_ptFirst, a_ptSecond, a_before, a_after, a_exitOf, a_head, a_rankOf, a_byRank, a_codeStart, a_codeEnd, a_codeOp, a_codeDst, a_codeMode, a_codeX, a_codeY, a_values, a_status, a_result, (upd a_forks m (if 1000000 ≤ a_forks m then a_forks m else a_forks m + 1)), a_outCount, a_output, a_place)) : wpX_countFork post ((nI V), (nI B), (nI L), (nI Q), f_residualMachine, f_directMachine, f_work, f_opMove, f_opOut, f_countCap, f_cursorLabel, f_residual, f_found, f_codeSize, a_stmt, a_stmtCount, a_term, a_rom, a_initial, a_marked, a_uses, a_dist, a_ptLabel, a_ptKind, a_ptFirst, a_ptSecond, a_before, a_after, a_exitOf, a_head, a_rankOf, a_byRank, a_codeStart, a_codeEnd, a_codeOp, a_codeDst, a_codeMode, a_codeX, a_codeY, a_values, a_status, a_result, a_forks, a_outCount, a_output, a_place) (nI m) := by
  have im : vp_in (nI m) 2 := vp_in_nI hm (by omega)
  have ec : (nI m).toNatClampNeg = m := nI_clamp (by omega)
  refine And.intro im (br_c (fun h => ?_) (fun h => And.intro im (And.intro im (nm_r (e' := upd a_forks m (a_forks m + 1)) (by rw [ec]) ?_))))
  · rw [ec] at h; rw [if_pos h, ar_upd_self rfl] at K; exact K
  · rw [ec] at h; rw [if_neg h] at K; exact K
/-- is the operand dynamic? by the distances -/
def pu_dy (dist : Nat → Int32) (o : Int32) : Bool := decide (0 ≤ o ∧ 0 ≤ dist o.toNatClampNeg)
theorem dy_neg {dist : Nat → Int32} {o : Int32} (h : o < 0) : pu_dy dist o = false := decide_eq_false (fun z => ar_nle h z.1)
theorem dy_var {dist : Nat → Int32} {j : Nat} (h : j < 2 ^ 31) : pu_dy dist (nI j) = decide (0 ≤ dist j) := by
  unfold pu_dy
  rw [nI_clamp h, decide_eq_decide.mpr (and_iff_right (nI_pos' h))]
theorem xw_isDyn {post : Int32 → Prop} {o o' : Int32} (eo : o' = o) (hV : V ≤ 8) (ho : pu_op V o) (h1 : pu_dy a_dist o = true → post 1) (h0 : pu_dy a_dist o = false → post 0) : wpX_isDynamicOperand post ((nI V), (nI B), (nI L), (nI Q), f_residualMachine, f_directMachine, f_work, f_opMove, f_opOut, f_countCap, f_cursorLabel, f_residual, f_found, f_codeSize, a_stmt, a_stmtCount, a_term, a_rom, a_initial, a_marked, a_uses, a_dist, a_ptLabel, a_ptKind, a_ptFirst, a_ptSecond, a_before, a_after, a_exitOf, a_head, a_rankOf, a_byRank, a_codeStart, a_codeEnd, a_codeOp, a_codeDst, a_codeMode, a_codeX, a_codeY, a_values, a_status, a_result, a_forks, a_outCount, a_output, a_place) o' := by
  subst eo
  rcases ho with h | ⟨j, hj, rfl⟩
  · exact br_t h (h0 (dy_neg h))
  · rw [dy_var (by omega)] at h1 h0
    refine br_f (nI_pos (by omega)) (And.intro (vp_in_nI (by omega) (by omega)) (br_c (fun h => ?_) (fun h => ?_)))
    · rw [nI_clamp (by omega)] at h; exact h0 (decide_eq_false (ar_nle h))
    · rw [nI_clamp (by omega)] at h; exact h1 (decide_eq_true (ar_lt h))
theorem xw_resid {post : Int32 → Prop} {o o' : Int32} (eo : o' = o) (hV : V ≤ 8) (ho : pu_op V o) (K : post (if pu_dy a_dist o = true then o else pu_ov (fun v => a_values (16 + v)) o)) : wpX_residualOperand post ((nI V), (nI B), (nI L), (nI Q), f_residualMachine, f_directMachine, f_work, f_opMove, f_opOut, f_countCap, f_cursorLabel, f_residual, f_found, f_codeSize, a_stmt, a_stmtCount, a_term, a_rom, a_initial, a_marked, a_uses, a_dist, a_ptLabel, a_ptKind, a_ptFirst, a_ptSecond, a_before, a_after, a_exitOf, a_head, a_rankOf, a_byRank, a_codeStart, a_codeEnd, a_codeOp, a_codeDst, a_codeMode, a_codeX, a_codeY, a_values, a_status, a_result, a_forks, a_outCount, a_output, a_place) o' := by
  subst eo
  unfold wpX_residualOperand
  refine xw_isDyn rfl hV ho (fun h => ?_) (fun h => ?_)
  · rw [if_pos h] at K; exact br_f (by decide) K
  · rw [if_neg (by rw [h]; decide)] at K; exact br_t rfl (xw_operand (b := 16) rfl hV (by omega) ho K)
theorem xw_drop {post : SX → Prop} (h1 : f_residual = 0 → post ((nI V), (nI B), (nI L), (nI Q), f_residualMachine, f_directMachine, f_work, f_opMove, f_opOut, f_countCap, f_cursorLabel, f_residual, f_found, f_codeSize, a_stmt, a_stmtCount, a_term, a_rom, a_initial, a_marked, a_uses, a_dist, a_ptLabel, a_ptKind, a_ptFirst, a_ptSecond, a_before, a_after, a_exitOf, a_head, a_rankOf, a_byRank, a_codeStart, a_codeEnd, a_codeOp, a_codeDst, a_codeMode, a_codeX, a_codeY, a_values, a_status, a_result, a_forks, a_outCount, a_output, a_place)) (h2 : ¬ f_residual = 0 → post ((nI V), (nI B), (nI L), (nI Q), f_residualMachine, f_directMachine, f_work, f_opMove, f_opOut, f_countCap, f_cursorLabel, 0, f_found, f_codeSize, a_stmt, a_stmtCount, a_term, a_rom, a_initial, a_marked, a_uses, a_dist, a_ptLabel, a_ptKind, a_ptFirst, a_ptSecond, a_before, a_after, a_exitOf, a_head, a_rankOf, a_byRank, a_codeStart, a_codeEnd, a_codeOp, a_codeDst, a_codeMode, a_codeX, a_codeY, a_values, (upd a_status 0 0), (upd a_result 0 0), (upd a_forks 0 0), (upd a_outCount 0 0), a_output, (upd a_place 0 0))) : wpX_drop post ((nI V), (nI B), (nI L), (nI Q), f_residualMachine, f_directMachine, f_work, f_opMove, f_opOut, f_countCap, f_cursorLabel, f_residual, f_found, f_codeSize, a_stmt, a_stmtCount, a_term, a_rom, a_initial, a_marked, a_uses, a_dist, a_ptLabel, a_ptKind, a_ptFirst, a_ptSecond, a_before, a_after, a_exitOf, a_head, a_rankOf, a_byRank, a_codeStart, a_codeEnd, a_codeOp, a_codeDst, a_codeMode, a_codeX, a_codeY, a_values, a_status, a_result, a_forks, a_outCount, a_output, a_place) :=
  br_c h1 (fun h => nm_e (nm_e (nm_e (nm_e (nm_e (h2 h))))))
theorem xw_countUse {post : SX → Prop} {d : Nat} {o o' c d' : Int32} (ed : d' = nI d) (eo : o' = o) (hV : V ≤ 8) (hd : d < V) (ho : pu_op V o)
    (h0 : o < 0 → post ((nI V), (nI B), (nI L), (nI Q), f_residualMachine, f_directMachine, f_work, f_opMove, f_opOut, f_countCap, f_cursorLabel, f_residual, f_found, f_codeSize, a_stmt, a_stmtCount, a_term, a_rom, a_initial, a_marked, a_uses, a_dist, a_ptLabel, a_ptKind, a_ptFirst, a_ptSecond, a_before, a_after, a_exitOf, a_head, a_rankOf, a_byRank, a_codeStart, a_codeEnd, a_codeOp, a_codeDst, a_codeMode, a_codeX, a_codeY, a_values, a_status, a_result, a_forks, a_outCount, a_output, a_place)) (h1 : ∀ j, j < V → o = nI j → post ((nI V), (nI B), (nI L), (nI Q), f_residualMachine, f_directMachine, f_work, f_opMove, f_opOut, f_countCap, f_cursorLabel, f_residual, f_found, f_codeSize, a_stmt, a_stmtCount, a_term, a_rom, a_initial, a_marked, (upd a_uses (d * 8 + j) (a_uses (d * 8 + j) + c)), a_dist, a_ptLabel, a_ptKind, a_ptFirst, a_ptSecond, a_before, a_after, a_exitOf, a_head, a_rankOf, a_byRank, a_codeStart, a_codeEnd, a_codeOp, a_codeDst, a_codeMode, a_codeX, a_codeY, a_values, a_status, a_result, a_forks, a_outCount, a_output, a_place)) : wpX_countUse post ((nI V), (nI B), (nI L), (nI Q), f_residualMachine, f_directMachine, f_work, f_opMove, f_opOut, f_countCap, f_cursorLabel, f_residual, f_found, f_codeSize, a_stmt, a_stmtCount, a_term, a_rom, a_initial, a_marked, a_uses, a_dist, a_ptLabel, a_ptKind, a_ptFirst, a_ptSecond, a_before, a_after, a_exitOf, a_head, a_rankOf, a_byRank, a_codeStart, a_codeEnd, a_codeOp, a_codeDst, a_codeMode, a_codeX, a_codeY, a_values, a_status, a_result, a_forks, a_outCount, a_output, a_place) d' o' c := by
  subst ed eo
  rcases ho with h | ⟨j, hj, rfl⟩
  · exact br_t h (h0 h)
  · have i1 : vp_in (nI d * 8 + nI j) 64 := by rw [ar_m8]; exact vp_in_nI (by omega) (by omega)
    refine br_f (nI_pos (by omega)) (And.intro i1 (And.intro i1 (nm_r (e' := upd a_uses (d * 8 + j) (a_uses (d * 8 + j) + c)) ?_ (h1 j hj rfl))))
    rw [ar_m8, nI_clamp (by omega)]
end
end
section
theorem dk_atg {V : Nat} {mk : Nat → Int32} {dep : Nat → Nat → Prop} {K M v : Nat} {d : Int32} (hK : K ≤ M) (hM : M < 100) (h : pu_dk V mk dep M v d) : d = nI K ↔ (pu_lev V mk dep K v ∧ ∀ j, j < K → ¬ pu_lev V mk dep j v) := by
  rcases h with ⟨k, hk, a, b, rfl⟩ | ⟨a, rfl⟩
  · rw [nI_eq (by omega) (by omega)]
    constructor
    · intro e; subst e; exact ⟨a, b⟩
    · intro ⟨h1, h2⟩
      rcases Nat.lt_trichotomy k K with z | z | z
      · exact absurd a (h2 k z)
      · exact z
      · exact absurd h1 (b K z)
  · exact ⟨fun z => absurd z.symm (ar_ne1 (by omega)), fun z => absurd (le_mono hK z.1) a⟩
section
variable {V B L Q : Nat} {f_residualMachine f_directMachine f_work f_opMove f_opOut f_countCap f_cursorLabel f_residual f_found f_codeSize : Int32} {a_stmt a_stmtCount a_term a_rom a_initial a_marked a_uses a_dist a_ptLabel a_ptKind a_ptFirst a_ptSecond a_before a_after a_exitOf a_head a_rankOf a_byRank a_codeStart a_codeEnd a_codeOp a_codeDst a_codeMode a_codeX a_codeY a_values a_status a_result a_forks a_outCount a_output a_place : Nat → Int32}
theorem xw_dep {post : Int32 → Prop} {v k : Nat} (hV : V ≤ 8) (hv : v < V) (h1 : (∃ u, u < V ∧ 0 < a_uses (v * 8 + u) ∧ a_dist u = nI k) → post 1)
    (h0 : (¬ ∃ u, u < V ∧ 0 < a_uses (v * 8 + u) ∧ a_dist u = nI k) → post 0) : wpX_dependsOnLevel post ((nI V), (nI B), (nI L), (nI Q), f_residualMachine, f_directMachine, f_work, f_opMove, f_opOut, f_countCap, f_cursorLabel, f_residual, f_found, f_codeSize, a_stmt, a_stmtCount, a_term, a_rom, a_initial, a_marked, a_uses, a_dist, a_ptLabel, a_ptKind, a_ptFirst, a_ptSecond, a_before, a_after, a_exitOf, a_head, a_rankOf, a_byRank, a_codeStart, a_codeEnd, a_codeOp, a_codeDst, a_codeMode, a_codeX, a_codeY, a_values, a_status, a_result, a_forks, a_outCount, a_output, a_place) (nI v) (nI k) := by
  have key : ∀ d i, i + d = V → (∀ u, u < i → ¬ (0 < a_uses (v * 8 + u) ∧ a_dist u = nI k)) → ∀ n, d < n → wX_dependsOnLevel_2 post (nI v) (nI k) (nI V) (nI B) (nI L) (nI Q) f_residualMachine f_directMachine f_work f_opMove f_opOut f_countCap f_cursorLabel f_residual f_found f_codeSize a_stmt a_stmtCount a_term a_rom a_initial a_marked a_uses a_dist a_ptLabel a_ptKind a_ptFirst a_ptSecond a_before a_after a_exitOf a_head a_rankOf a_byRank a_codeStart a_codeEnd a_codeOp a_codeDst a_codeMode a_codeX a_codeY a_values a_status a_result a_forks a_outCount a_output a_place n (nI i) := by
    intro d
    induction d with
    | zero =>
      intro i hi hno n hn
      obtain ⟨m, rfl⟩ : ∃ m, n = m + 1 := ⟨n - 1, by omega⟩
      exact br_t (nI_le (by omega) (by omega)) (h0 (fun ⟨u, hu, a, b⟩ => hno u (by omega) ⟨a, b⟩))
    | succ d ih =>
      intro i hi hno n hn
      obtain ⟨m, rfl⟩ : ∃ m, n = m + 1 := ⟨n - 1, by omega⟩
      have ic : (nI v * 8 + nI i).toNatClampNeg = v * 8 + i := by rw [ar_m8, nI_clamp (by omega)]
      refine br_f (nI_ge (by omega) (by omega)) (And.intro (by rw [ar_m8]; exact vp_in_nI (by omega) (by omega)) (br_c (fun hz => ?_) (fun hz => ?_)))
      · rw [ic] at hz
        exact nm_r (ar_a1 i) (ih (i + 1) (by omega) (lt_s hno (fun z => ar_nle z.1 hz)) m (by omega))
      · rw [ic] at hz
        refine And.intro (vp_in_nI (by omega) (by omega)) (br_c (fun hq => ?_) (fun hq => ?_))
        · rw [nI_clamp (by omega)] at hq; exact h1 ⟨i, by omega, ar_le hz, hq⟩
        · rw [nI_clamp (by omega)] at hq; exact nm_r (ar_a1 i) (ih (i + 1) (by omega) (lt_s hno (fun z => hq z.2)) m (by omega))
  exact ⟨V + 1, key V 0 (by omega) (fun u hu => by omega) _ (by omega)⟩
theorem xw_an48 {post : SX → Prop} {J : Int32 → (Nat → Int32) → (Nat → Int32) → (Nat → Int32) → (Nat → Int32) → (Nat → Int32) → (Nat → Int32) → (Nat → Int32) → (Nat → Int32) → (Nat → Int32) → (Nat → Int32) → (Nat → Int32) → (Nat → Int32) → (Nat → Int32) → (Nat → Int32) → (Nat → Int32) → (Nat → Int32) → (Nat → Int32) → (Nat → Int32) → (Nat → Int32) → (Nat → Int32) → (Nat → Int32) → (Nat → Int32) → (Nat → Int32) → (Nat → Int32) → (Nat → Int32) → (Nat → Int32) → (Nat → Int32) → (Nat → Int32) → (Nat → Int32) → (Nat → Int32) → (Nat → Int32) → (Nat → Int32) → Prop} {dep : Nat → Nat → Prop} {k : Nat} (hk : k < 20) (hV : V ≤ 8)
    (hu : ∀ v u, v < V → u < V → (0 < a_uses (v * 8 + u) ↔ dep v u))
    (hJ : ∀ a_dist, (∀ v, v < V → pu_dk V a_marked dep (k + 1) v (a_dist v)) → J (nI (k + 1)) a_stmt a_stmtCount a_term a_rom a_initial a_marked a_uses a_dist a_ptLabel a_ptKind a_ptFirst a_ptSecond a_before a_after a_exitOf a_head a_rankOf a_byRank a_codeStart a_codeEnd a_codeOp a_codeDst a_codeMode a_codeX a_codeY a_values a_status a_result a_forks a_outCount a_output a_place) :
    ∀ e i, i + e = V → ∀ a_dist, (∀ v, v < i → pu_dk V a_marked dep (k + 1) v (a_dist v)) → (∀ v, i ≤ v → v < V → pu_dk V a_marked dep k v (a_dist v)) → ∀ n, e < n → wX_analyse_48 post J (nI k) (nI V) (nI B) (nI L) (nI Q) f_residualMachine f_directMachine f_work f_opMove f_opOut f_countCap f_cursorLabel f_residual f_found f_codeSize n (nI i) a_stmt a_stmtCount a_term a_rom a_initial a_marked a_uses a_dist a_ptLabel a_ptKind a_ptFirst a_ptSecond a_before a_after a_exitOf a_head a_rankOf a_byRank a_codeStart a_codeEnd a_codeOp a_codeDst a_codeMode a_codeX a_codeY a_values a_status a_result a_forks a_outCount a_output a_place := by
  intro e
  induction e with
  | zero =>
    intro i hi a_dist h1 h2 n hn
    obtain ⟨m, rfl⟩ : ∃ m, n = m + 1 := ⟨n - 1, by omega⟩
    exact br_t (nI_le (by omega) (by omega)) (nm_r (ar_a1 k) (hJ a_dist (fun v hv => h1 v (by omega))))
  | succ e ih =>
    intro i hi a_dist h1 h2 n hn
    obtain ⟨m, rfl⟩ : ∃ m, n = m + 1 := ⟨n - 1, by omega⟩
    have ic : (nI i).toNatClampNeg = i := nI_clamp (by omega)
    have hi2 := h2 i (Nat.le_refl _) (by omega)
    refine br_f (nI_ge (by omega) (by omega)) (And.intro (vp_in_nI (by omega) (by omega)) (br_c (fun hz => ?_) (fun hz => ?_)))
    · rw [ic] at hz
      exact nm_r (ar_a1 i) (ih (i + 1) (by omega) a_dist (lt_s h1 (dk_keep (by omega) hi2 hz)) (fun v h3 h4 => h2 v (by omega) h4) m (by omega))
    · rw [ic] at hz
      have hnl : ¬ pu_lev V a_marked dep k i := fun z => hz ((dk_neg (by omega) hi2).mpr z)
      have eqv : (∃ u, u < V ∧ 0 < a_uses (i * 8 + u) ∧ a_dist u = nI k) ↔ ∃ u, u < V ∧ dep i u ∧ pu_lev V a_marked dep k u := by
        constructor
        · intro ⟨u, hu1, hu2, hu3⟩
          refine ⟨u, hu1, (hu i u (by omega) hu1).mp hu2, ?_⟩
          by_cases z : u < i
          · exact ((dk_atg (by omega) (by omega) (h1 u z)).mp hu3).1
          · exact ((dk_atg (by omega) (by omega) (h2 u (by omega) hu1)).mp hu3).1
        · intro ⟨u, hu1, hu2, hu3⟩
          refine ⟨u, hu1, (hu i u (by omega) hu1).mpr hu2, ?_⟩
          have hm := dk_dep (by omega) hnl hu1 hu2 hu3
          by_cases z : u < i
          · exact (dk_atg (by omega) (by omega) (h1 u z)).mpr ⟨hu3, hm⟩
          · exact (dk_atg (by omega) (by omega) (h2 u (by omega) hu1)).mpr ⟨hu3, hm⟩
      refine xw_dep hV (by omega) (fun hx => ?_) (fun hx => ?_)
      · refine br_f (by decide) (And.intro (vp_in_nI (by omega) (by omega)) (nm_r (e' := upd a_dist i (nI (k + 1))) (by rw [ic, ar_a1]) (nm_r (ar_a1 i) (ih (i + 1) (by omega) _ ?_ ?_ m (by omega)))))
        · refine lt_s (fun v hv => ?_) ?_
          · rw [pk_un (by omega)]; exact h1 v hv
          · rw [pk_us]; exact dk_yes (by omega) (by omega) hi2 hz (eqv.mp hx)
        · intro v h3 h4; rw [pk_un (by omega)]; exact h2 v (by omega) h4
      · refine br_t rfl (nm_r (ar_a1 i) (ih (i + 1) (by omega) a_dist (lt_s h1 (dk_no (by omega) hi2 hz (fun z => hx (eqv.mpr z)))) (fun v h3 h4 => h2 v (by omega) h4) m (by omega)))
theorem xw_an38 {post : SX → Prop} {dep : Nat → Nat → Prop} (hV1 : 1 ≤ V) (hV : V ≤ 8)
    (hu : ∀ v u, v < V → u < V → (0 < a_uses (v * 8 + u) ↔ dep v u))
    (K : ∀ a_dist, (∀ v, v < V → pu_dist V a_marked dep v (a_dist v)) → post ((nI V), (nI B), (nI L), (nI Q), f_residualMachine, f_directMachine, f_work, f_opMove, f_opOut, f_countCap, f_cursorLabel, f_residual, f_found, f_codeSize, a_stmt, a_stmtCount, a_term, a_rom, a_initial, a_marked, a_uses, a_dist, a_ptLabel, a_ptKind, a_ptFirst, a_ptSecond, a_before, a_after, a_exitOf, a_head, a_rankOf, a_byRank, a_codeStart, a_codeEnd, a_codeOp, a_codeDst, a_codeMode, a_codeX, a_codeY, a_values, a_status, a_result, a_forks, a_outCount, a_output, a_place)) :
    ∀ e k, k + e = V → ∀ a_dist, (∀ v, v < V → pu_dk V a_marked dep k v (a_dist v)) → ∀ n, e < n → wX_analyse_38 post (nI V) (nI B) (nI L) (nI Q) f_residualMachine f_directMachine f_work f_opMove f_opOut f_countCap f_cursorLabel f_residual f_found f_codeSize n (nI k) a_stmt a_stmtCount a_term a_rom a_initial a_marked a_uses a_dist a_ptLabel a_ptKind a_ptFirst a_ptSecond a_before a_after a_exitOf a_head a_rankOf a_byRank a_codeStart a_codeEnd a_codeOp a_codeDst a_codeMode a_codeX a_codeY a_values a_status a_result a_forks a_outCount a_output a_place := by
  intro e
  induction e with
  | zero =>
    intro k hk a_dist h n hn
    obtain ⟨m, rfl⟩ : ∃ m, n = m + 1 := ⟨n - 1, by omega⟩
    obtain rfl : k = V := by omega
    exact br_t (nI_le (by omega) (by omega)) (K a_dist (fun v hv => dk_end hV1 hV (h v hv)))
  | succ e ih =>
    intro k hk a_dist h n hn
    obtain ⟨m, rfl⟩ : ∃ m, n = m + 1 := ⟨n - 1, by omega⟩
    refine br_f (nI_ge (by omega) (by omega)) (Exists.intro (V + 1) ?_)
    exact xw_an48 (by omega) hV hu (fun a_dist h => ih (k + 1) (by omega) a_dist h m (by omega)) V 0 (by omega) a_dist (fun v hv => by omega) (fun v _ hv => h v hv) _ (by omega)
theorem xw_an2 {post : SX → Prop} {dep : Nat → Nat → Prop} (hV1 : 1 ≤ V) (hV : V ≤ 8)
    (hu : ∀ v u, v < V → u < V → (0 < a_uses (v * 8 + u) ↔ dep v u))
    (K : ∀ a_dist, (∀ v, v < V → pu_dist V a_marked dep v (a_dist v)) → post ((nI V), (nI B), (nI L), (nI Q), f_residualMachine, f_directMachine, f_work, f_opMove, f_opOut, f_countCap, f_cursorLabel, f_residual, f_found, f_codeSize, a_stmt, a_stmtCount, a_term, a_rom, a_initial, a_marked, a_uses, a_dist, a_ptLabel, a_ptKind, a_ptFirst, a_ptSecond, a_before, a_after, a_exitOf, a_head, a_rankOf, a_byRank, a_codeStart, a_codeEnd, a_codeOp, a_codeDst, a_codeMode, a_codeX, a_codeY, a_values, a_status, a_result, a_forks, a_outCount, a_output, a_place)) :
    ∀ e i, i + e = V → ∀ a_dist, (∀ v, v < i → pu_dk V a_marked dep 0 v (a_dist v)) → ∀ n, e < n → wX_analyse_2 post (nI V) (nI B) (nI L) (nI Q) f_residualMachine f_directMachine f_work f_opMove f_opOut f_countCap f_cursorLabel f_residual f_found f_codeSize n (nI i) a_stmt a_stmtCount a_term a_rom a_initial a_marked a_uses a_dist a_ptLabel a_ptKind a_ptFirst a_ptSecond a_before a_after a_exitOf a_head a_rankOf a_byRank a_codeStart a_codeEnd a_codeOp a_codeDst a_codeMode a_codeX a_codeY a_values a_status a_result a_forks a_outCount a_output a_place := by
  intro e
  induction e with
  | zero =>
    intro i hi a_dist h n hn
    obtain ⟨m, rfl⟩ : ∃ m, n = m + 1 := ⟨n - 1, by omega⟩
    exact br_t (nI_le (by omega) (by omega)) ⟨V + 1, xw_an38 hV1 hV hu K V 0 (by omega) a_dist (fun v hv => h v (by omega)) _ (by omega)⟩
  | succ e ih =>
    intro i hi a_dist h n hn
    obtain ⟨m, rfl⟩ : ∃ m, n = m + 1 := ⟨n - 1, by omega⟩
    have ic : (nI i).toNatClampNeg = i := nI_clamp (by omega)
    have i8 : vp_in (nI i) 8 := vp_in_nI (by omega) (by omega)
    have h0 := dk_0 (mk := a_marked) (dep := dep) (show i < V by omega)
    refine br_f (nI_ge (by omega) (by omega)) (And.intro i8 (br_c (fun hz => ?_) (fun hz => ?_)))
    · rw [ic] at hz
      rw [if_pos hz] at h0
      refine And.intro i8 (nm_r (e' := upd a_dist i (-1)) (by rw [ic]) (nm_r (ar_a1 i) (ih (i + 1) (by omega) _ (lt_s (fun v hv => ?_) ?_) m (by omega))))
      · rw [pk_un (by omega)]; exact h v hv
      · rw [pk_us]; exact h0
    · rw [ic] at hz
      rw [if_neg hz] at h0
      refine And.intro i8 (nm_r (e' := upd a_dist i 0) (by rw [ic]) (nm_r (ar_a1 i) (ih (i + 1) (by omega) _ (lt_s (fun v hv => ?_) ?_) m (by omega))))
      · rw [pk_un (by omega)]; exact h v hv
      · rw [pk_us]; exact h0
theorem xw_analyse {post : SX → Prop} {dep : Nat → Nat → Prop} (hV1 : 1 ≤ V) (hV : V ≤ 8)
    (hu : ∀ v u, v < V → u < V → (0 < a_uses (v * 8 + u) ↔ dep v u))
    (K : ∀ a_dist, (∀ v, v < V → pu_dist V a_marked dep v (a_dist v)) → post ((nI V), (nI B), (nI L), (nI Q), f_residualMachine, f_directMachine, f_work, f_opMove, f_opOut, f_countCap, f_cursorLabel, f_residual, f_found, f_codeSize, a_stmt, a_stmtCount, a_term, a_rom, a_initial, a_marked, a_uses, a_dist, a_ptLabel, a_ptKind, a_ptFirst, a_ptSecond, a_before, a_after, a_exitOf, a_head, a_rankOf, a_byRank, a_codeStart, a_codeEnd, a_codeOp, a_codeDst, a_codeMode, a_codeX, a_codeY, a_values, a_status, a_result, a_forks, a_outCount, a_output, a_place)) : wpX_analyse post ((nI V), (nI B), (nI L), (nI Q), f_residualMachine, f_directMachine, f_work, f_opMove, f_opOut, f_countCap, f_cursorLabel, f_residual, f_found, f_codeSize, a_stmt, a_stmtCount, a_term, a_rom, a_initial, a_marked, a_uses, a_dist, a_ptLabel, a_ptKind, a_ptFirst, a_ptSecond, a_before, a_after, a_exitOf, a_head, a_rankOf, a_byRank, a_codeStart, a_codeEnd, a_codeOp, a_codeDst, a_codeMode, a_codeX, a_codeY, a_values, a_status, a_result, a_forks, a_outCount, a_output, a_place) :=
  ⟨V + 1, xw_an2 hV1 hV hu K V 0 (by omega) a_dist (fun v hv => by omega) _ (by omega)⟩
/-- a count changes by c where dst is d and the operand is u -/
theorem xw_cuse {post : SX → Prop} {d : Nat} {o o' c d' : Int32} (ed : d' = nI d) (eo : o' = o) (hV : V ≤ 8) (hd : d < V) (ho : pu_op V o)
    (K : ∀ w : Nat → Int32, (∀ v u, v < V → u < V → w (v * 8 + u) = a_uses (v * 8 + u) + (if v = d ∧ o = nI u then c else 0)) → post ((nI V), (nI B), (nI L), (nI Q), f_residualMachine, f_directMachine, f_work, f_opMove, f_opOut, f_countCap, f_cursorLabel, f_residual, f_found, f_codeSize, a_stmt, a_stmtCount, a_term, a_rom, a_initial, a_marked, w, a_dist, a_ptLabel, a_ptKind, a_ptFirst, a_ptSecond, a_before, a_after, a_exitOf, a_head, a_rankOf, a_byRank, a_codeStart, a_codeEnd, a_codeOp, a_codeDst, a_codeMode, a_codeX, a_codeY, a_values, a_status, a_result, a_forks, a_outCount, a_output, a_place)) : wpX_countUse post ((nI V), (nI B), (nI L), (nI Q), f_residualMachine, f_directMachine, f_work, f_opMove, f_opOut, f_countCap, f_cursorLabel, f_residual, f_found, f_codeSize, a_stmt, a_stmtCount, a_term, a_rom, a_initial, a_marked, a_uses, a_dist, a_ptLabel, a_ptKind, a_ptFirst, a_ptSecond, a_before, a_after, a_exitOf, a_head, a_rankOf, a_byRank, a_codeStart, a_codeEnd, a_codeOp, a_codeDst, a_codeMode, a_codeX, a_codeY, a_values, a_status, a_result, a_forks, a_outCount, a_output, a_place) d' o' c := by
  refine xw_countUse ed eo hV hd ho (fun h => ?_) (fun j hj e => ?_)
  · refine K a_uses (fun v u hv hu => ?_)
    rw [if_neg (fun z => by rw [z.2] at h; exact nI_pos (by omega) h), Int32.add_zero]
  · refine K _ (fun v u hv hu => ?_)
    by_cases z : v = d ∧ o = nI u
    · rw [if_pos z]
      have : j = u := (nI_eq (by omega) (by omega)).mp (e.symm.trans z.2)
      rw [z.1, this, pk_us]
    · rw [if_neg z, Int32.add_zero, pk_un]
      intro y
      exact z ⟨by omega, by rw [e]; congr 1; omega⟩
end
end
section
/-! writing the subject -/
def pu_p5 (a : Nat → Int32) (k : Nat) (x0 x1 x2 x3 x4 : Int32) : Nat → Int32 := upd (upd (upd (upd (upd a k x0) (k + 1) x1) (k + 2) x2) (k + 3) x3) (k + 4) x4
def pu_p4 (a : Nat → Int32) (k : Nat) (x0 x1 x2 x3 : Int32) : Nat → Int32 := upd (upd (upd (upd a k x0) (k + 1) x1) (k + 2) x2) (k + 3) x3
def pu_f5 (x0 x1 x2 x3 x4 : Int32) (f : Nat) : Int32 := if f = 0 then x0 else if f = 1 then x1 else if f = 2 then x2 else if f = 3 then x3 else x4
theorem p5_out {a : Nat → Int32} {k j : Nat} {x0 x1 x2 x3 x4 : Int32} (h : j < k ∨ k + 5 ≤ j) : pu_p5 a k x0 x1 x2 x3 x4 j = a j := by
  unfold pu_p5
  rw [pk_un (by omega), pk_un (by omega), pk_un (by omega), pk_un (by omega), pk_un (by omega)]
theorem p5_in {a : Nat → Int32} {k f : Nat} {x0 x1 x2 x3 x4 : Int32} (hf : f < 5) : pu_p5 a k x0 x1 x2 x3 x4 (k + f) = pu_f5 x0 x1 x2 x3 x4 f := by
  unfold pu_p5 pu_f5
  rcases (by omega : f = 0 ∨ f = 1 ∨ f = 2 ∨ f = 3 ∨ f = 4) with e | e | e | e | e <;> subst e
  · rw [pk_un (by omega), pk_un (by omega), pk_un (by omega), pk_un (by omega), Nat.add_zero, pk_us, if_pos rfl]
  · rw [pk_un (by omega), pk_un (by omega), pk_un (by omega), pk_us]; rfl
  · rw [pk_un (by omega), pk_un (by omega), pk_us]; rfl
  · rw [pk_un (by omega), pk_us]; rfl
  · rw [pk_us]; rfl
theorem p4_out {a : Nat → Int32} {k j : Nat} {x0 x1 x2 x3 : Int32} (h : j < k ∨ k + 4 ≤ j) : pu_p4 a k x0 x1 x2 x3 j = a j := by
  unfold pu_p4
  rw [pk_un (by omega), pk_un (by omega), pk_un (by omega), pk_un (by omega)]
theorem p4_in {a : Nat → Int32} {k f : Nat} {x0 x1 x2 x3 : Int32} (hf : f < 4) : pu_p4 a k x0 x1 x2 x3 (k + f) = pu_f5 x0 x1 x2 x3 0 f := by
  unfold pu_p4 pu_f5
  rcases (by omega : f = 0 ∨ f = 1 ∨ f = 2 ∨ f = 3) with e | e | e | e <;> subst e
  · rw [pk_un (by omega), pk_un (by omega), pk_un (by omega), Nat.add_zero, pk_us, if_pos rfl]
  · rw [pk_un (by omega), pk_un (by omega), pk_us]; rfl
  · rw [pk_un (by omega), pk_us]; rfl
  · rw [pk_us]; rfl
def pu_un (sz : Nat → Nat) (k x : Nat) : Nat → Nat := fun j => if j = k then x else sz j
theorem un_s {sz : Nat → Nat} {k x : Nat} : pu_un sz k x k = x := if_pos rfl
theorem un_n {sz : Nat → Nat} {k x j : Nat} (h : j ≠ k) : pu_un sz k x j = sz j := if_neg h
theorem row_ext {V : Nat} {cd cd' : Nat → Int32} {r : Nat} (h : ∀ f, f < 5 → cd' (r + f) = cd (r + f)) (hr : pu_row V cd r) : pu_row V cd' r := by
  unfold pu_row at *
  have h0 := h 0 (by omega)
  rw [Nat.add_zero] at h0
  rw [h0, h 1 (by omega), h 2 (by omega), h 3 (by omega), h 4 (by omega)]
  exact hr
theorem ter_ext {V B : Nat} {cd cd' : Nat → Int32} {r : Nat} (h : ∀ f, f < 5 → cd' (r + f) = cd (r + f)) (hr : pu_ter V B cd r) : pu_ter V B cd' r := by
  unfold pu_ter at *
  have h0 := h 0 (by omega)
  rw [Nat.add_zero] at h0
  rw [h0, h 1 (by omega), h 2 (by omega), h 3 (by omega)]
  rcases hr with hr | hr
  · exact Or.inl (fun f hf => (h f hf).trans (hr f hf))
  · exact Or.inr hr
theorem ter_open {V B : Nat} {cd : Nat → Int32} {t : Nat} (h : pu_ter V B cd t) (h0 : cd t = 0) : ∀ f, f < 5 → cd (t + f) = 0 := by
  rcases h with h | h | h | h
  · exact h
  · exact absurd (h0.symm.trans h.1) (by decide)
  · exact absurd (h0.symm.trans h.1) (by decide)
  · exact absurd (h0.symm.trans h.1) (by decide)
section
variable {V B L : Nat} {sz : Nat → Nat} {cd stmt cnt term : Nat → Int32}
theorem sr_append (h : pu_src V B L sz cd stmt cnt term) (hL : L ≤ 6) {C : Nat} (hC : C < 16) (hs : sz C < L) (h0 : cd (C * 35 + sz C * 5) = 0) {x0 x1 x2 x3 x4 : Int32}
    (hr : ∀ cd' r, (∀ f, f < 5 → cd' (r + f) = pu_f5 x0 x1 x2 x3 x4 f) → pu_row V cd' r) :
    pu_src V B L (pu_un sz C (sz C + 1)) (pu_p5 cd (C * 35 + sz C * 5) x0 x1 x2 x3 x4) (pu_p5 stmt ((C * 6 + sz C) * 5) x0 x1 x2 x3 x4) (upd cnt C (nI (sz C + 1))) term := by
  have hop := ter_open (sr_ter h hC) h0
  have hz : ∀ l, l < 16 → sz l ≤ 6 := fun l hl => Nat.le_trans (sr_sz h hl) hL
  refine ⟨?_, ?_, ?_, ?_, ?_, ?_⟩
  · intro l hl
    by_cases e : l = C
    · subst e; rw [pk_us, un_s]; exact ⟨rfl, by omega⟩
    · rw [pk_un e, un_n e]; exact h.1 l hl
  · intro l i f hl hi hf
    by_cases e : l = C
    · subst e
      rw [un_s] at hi
      by_cases e2 : i = sz l
      · subst e2; rw [p5_in hf, p5_in hf]
      · rw [p5_out (by omega), p5_out (by omega)]; exact sr_st h f hl (by omega) hf
    · rw [un_n e] at hi
      have := hz l hl
      have := hz C hC
      rw [p5_out (by omega), p5_out (by omega)]; exact sr_st h f hl hi hf
  · intro l f hl hf
    have := hz l hl
    have := hz C hC
    by_cases e : l = C
    · subst e
      rw [un_s, p5_out (by omega), sr_tm h f hl hf, hop f hf]
      exact (sr_0 h hl (by omega) (by omega) hf).symm
    · rw [un_n e, p5_out (by omega)]; exact sr_tm h f hl hf
  · intro l i hl hi
    have := hz l hl
    have := hz C hC
    by_cases e : l = C
    · subst e
      rw [un_s] at hi
      by_cases e2 : i = sz l
      · subst e2; exact hr _ _ (fun f hf => p5_in hf)
      · exact row_ext (fun f hf => p5_out (by omega)) (sr_row h hl (by omega))
    · rw [un_n e] at hi
      exact row_ext (fun f hf => p5_out (by omega)) (sr_row h hl hi)
  · intro l hl
    have := hz l hl
    have := hz C hC
    by_cases e : l = C
    · subst e
      rw [un_s]
      refine Or.inl (fun f hf => ?_)
      rw [p5_out (by omega)]
      exact sr_0 h hl (by omega) (by omega) hf
    · rw [un_n e]
      exact ter_ext (fun f hf => p5_out (by omega)) (sr_ter h hl)
  · intro l i f hl hi h7 hf
    have := hz l hl
    have := hz C hC
    by_cases e : l = C
    · subst e
      rw [un_s] at hi
      rw [p5_out (by omega)]; exact sr_0 h hl (by omega) h7 hf
    · rw [un_n e] at hi
      rw [p5_out (by omega)]; exact sr_0 h hl hi h7 hf
theorem sr_close (h : pu_src V B L sz cd stmt cnt term) (hL : L ≤ 6) {C : Nat} (hC : C < 16) (h0 : cd (C * 35 + sz C * 5) = 0) {x0 x1 x2 x3 : Int32}
    (hr : ∀ cd' r, (∀ f, f < 5 → cd' (r + f) = pu_f5 x0 x1 x2 x3 0 f) → pu_ter V B cd' r) :
    pu_src V B L sz (pu_p4 cd (C * 35 + sz C * 5) x0 x1 x2 x3) stmt cnt (pu_p4 term (C * 5) x0 x1 x2 x3) := by
  have hop := ter_open (sr_ter h hC) h0
  have hz : ∀ l, l < 16 → sz l ≤ 6 := fun l hl => Nat.le_trans (sr_sz h hl) hL
  have hin : ∀ f, f < 5 → pu_p4 cd (C * 35 + sz C * 5) x0 x1 x2 x3 (C * 35 + sz C * 5 + f) = pu_f5 x0 x1 x2 x3 0 f := by
    intro f hf
    by_cases e : f = 4
    · subst e; rw [p4_out (by omega), hop 4 (by omega)]; rfl
    · exact p4_in (by omega)
  refine ⟨h.1, ?_, ?_, ?_, ?_, ?_⟩
  · intro l i f hl hi hf
    have := hz l hl
    have := hz C hC
    rw [p4_out (by by_cases e : l = C; subst e; omega; omega)]; exact sr_st h f hl hi hf
  · intro l f hl hf
    have := hz l hl
    have := hz C hC
    by_cases e : l = C
    · subst e
      rw [hin f hf]
      by_cases e2 : f = 4
      · subst e2; rw [p4_out (by omega), sr_tm h 4 hl (by omega), hop 4 (by omega)]; rfl
      · exact p4_in (by omega)
    · rw [p4_out (by omega), p4_out (by omega)]; exact sr_tm h f hl hf
  · intro l i hl hi
    have := hz l hl
    have := hz C hC
    exact row_ext (fun f hf => p4_out (by by_cases e : l = C; subst e; omega; omega)) (sr_row h hl hi)
  · intro l hl
    have := hz l hl
    have := hz C hC
    by_cases e : l = C
    · subst e; exact hr _ _ hin
    · exact ter_ext (fun f hf => p4_out (by omega)) (sr_ter h hl)
  · intro l i f hl hi h7 hf
    have := hz l hl
    have := hz C hC
    rw [p4_out (by by_cases e : l = C; subst e; omega; omega)]; exact sr_0 h hl hi h7 hf
theorem sr_block (h : pu_src V B L sz cd stmt cnt term) (hL : L ≤ 6) {C : Nat} (hC : C < 16) {cd' term' : Nat → Int32}
    (h1 : ∀ f, f < 35 → cd' (C * 35 + f) = 0) (h2 : ∀ j, (j < C * 35 ∨ C * 35 + 35 ≤ j) → cd' j = cd j)
    (h3 : ∀ f, f < 5 → term' (C * 5 + f) = 0) (h4 : ∀ j, (j < C * 5 ∨ C * 5 + 5 ≤ j) → term' j = term j) :
    pu_src V B L (pu_un sz C 0) cd' stmt (upd cnt C 0) term' := by
  have hz : ∀ l, l < 16 → sz l ≤ 6 := fun l hl => Nat.le_trans (sr_sz h hl) hL
  refine ⟨?_, ?_, ?_, ?_, ?_, ?_⟩
  · intro l hl
    by_cases e : l = C
    · subst e; rw [pk_us, un_s]; exact ⟨rfl, by omega⟩
    · rw [pk_un e, un_n e]; exact h.1 l hl
  · intro l i f hl hi hf
    by_cases e : l = C
    · subst e; rw [un_s] at hi; omega
    · rw [un_n e] at hi
      have := hz l hl
      rw [h2 _ (by omega)]; exact sr_st h f hl hi hf
  · intro l f hl hf
    have := hz l hl
    by_cases e : l = C
    · subst e; rw [un_s, h3 f hf]; exact (h1 (0 * 5 + f) (by omega)).symm.trans (by congr 1; omega)
    · rw [un_n e, h4 _ (by omega), h2 _ (by omega)]; exact sr_tm h f hl hf
  · intro l i hl hi
    have := hz l hl
    by_cases e : l = C
    · subst e; rw [un_s] at hi; omega
    · rw [un_n e] at hi
      exact row_ext (fun f hf => h2 _ (by omega)) (sr_row h hl hi)
  · intro l hl
    have := hz l hl
    by_cases e : l = C
    · subst e; rw [un_s]; exact Or.inl (fun f hf => h1 (0 * 5 + f) (by omega) |>.symm.trans (by congr 1; omega) |>.symm)
    · rw [un_n e]
      exact ter_ext (fun f hf => h2 _ (by omega)) (sr_ter h hl)
  · intro l i f hl hi h7 hf
    by_cases e : l = C
    · subst e
      have := h1 (i * 5 + f) (by omega)
      rw [← this]; congr 1; omega
    · rw [un_n e] at hi
      rw [h2 _ (by omega)]; exact sr_0 h hl hi h7 hf
theorem sr_us_app (h : pu_src V B L sz cd stmt cnt term) (hL : L ≤ 6) {C : Nat} (hC : C < 16) {x0 x1 x2 x3 x4 : Int32} (v u : Nat) :
    pu_us (pu_p5 cd (C * 35 + sz C * 5) x0 x1 x2 x3 x4) (pu_un sz C (sz C + 1)) v u 16 = pu_us cd sz v u 16 + pu_w (pu_p5 cd (C * 35 + sz C * 5) x0 x1 x2 x3 x4) v u (C * 35 + sz C * 5) := by
  have hz : ∀ l, l < 16 → sz l ≤ 6 := fun l hl => Nat.le_trans (sr_sz h hl) hL
  have e1 : ∀ l, l ≠ C → l < 16 → pu_ws (pu_p5 cd (C * 35 + sz C * 5) x0 x1 x2 x3 x4) v u l (pu_un sz C (sz C + 1) l) = pu_ws cd v u l (sz l) := by
    intro l hl hl2
    have := hz l hl2
    have := hz C hC
    rw [un_n hl]
    exact ws_ext _ (fun j f hj hf => p5_out (by omega))
  have e2 : pu_ws (pu_p5 cd (C * 35 + sz C * 5) x0 x1 x2 x3 x4) v u C (sz C) = pu_ws cd v u C (sz C) := ws_ext _ (fun j f hj hf => p5_out (by omega))
  have key := us_upd16 e1 hC
  rw [un_s] at key
  rw [show pu_ws (pu_p5 cd (C * 35 + sz C * 5) x0 x1 x2 x3 x4) v u C (sz C + 1) = pu_ws (pu_p5 cd (C * 35 + sz C * 5) x0 x1 x2 x3 x4) v u C (sz C) + pu_w (pu_p5 cd (C * 35 + sz C * 5) x0 x1 x2 x3 x4) v u (C * 35 + sz C * 5) from rfl, e2] at key
  omega
theorem sr_us_close (h : pu_src V B L sz cd stmt cnt term) (hL : L ≤ 6) {C : Nat} (hC : C < 16) {x0 x1 x2 x3 : Int32} (v u : Nat) :
    pu_us (pu_p4 cd (C * 35 + sz C * 5) x0 x1 x2 x3) sz v u 16 = pu_us cd sz v u 16 := by
  have hz : ∀ l, l < 16 → sz l ≤ 6 := fun l hl => Nat.le_trans (sr_sz h hl) hL
  have e1 : ∀ l, l < 16 → pu_ws (pu_p4 cd (C * 35 + sz C * 5) x0 x1 x2 x3) v u l (sz l) = pu_ws cd v u l (sz l) := by
    intro l hl2
    have := hz l hl2
    have := hz C hC
    exact ws_ext _ (fun j f hj hf => p4_out (by by_cases e : l = C; subst e; omega; omega))
  have key := us_upd16 (C := C) (fun l _ hl => e1 l hl) hC
  rw [e1 C hC] at key
  omega
theorem sr_us_blk (h : pu_src V B L sz cd stmt cnt term) (hL : L ≤ 6) {C : Nat} (hC : C < 16) {cd' : Nat → Int32}
    (h2 : ∀ j, (j < C * 35 ∨ C * 35 + 35 ≤ j) → cd' j = cd j) (v u : Nat) :
    pu_us cd' (pu_un sz C 0) v u 16 + pu_ws cd v u C (sz C) = pu_us cd sz v u 16 := by
  have hz : ∀ l, l < 16 → sz l ≤ 6 := fun l hl => Nat.le_trans (sr_sz h hl) hL
  have e1 : ∀ l, l ≠ C → l < 16 → pu_ws cd' v u l (pu_un sz C 0 l) = pu_ws cd v u l (sz l) := by
    intro l hl hl2
    have := hz l hl2
    rw [un_n hl]
    exact ws_ext _ (fun j f hj hf => h2 _ (by omega))
  have key := us_upd16 e1 hC
  rw [un_s, show pu_ws cd' v u C 0 = 0 from rfl] at key
  omega
end
end
section
section
variable {V B L Q : Nat} {f_residualMachine f_directMachine f_work f_opMove f_opOut f_countCap f_cursorLabel f_residual f_found f_codeSize : Int32} {a_stmt a_stmtCount a_term a_rom a_initial a_marked a_uses a_dist a_ptLabel a_ptKind a_ptFirst a_ptSecond a_before a_after a_exitOf a_head a_rankOf a_byRank a_codeStart a_codeEnd a_codeOp a_codeDst a_codeMode a_codeX a_codeY a_values a_status a_result a_forks a_outCount a_output a_place : Nat → Int32} {sz : Nat → Nat} {cd : Nat → Int32}
theorem ar_fg {a s c : Int32} : (a + -1) + (s + 1) = a + s := by grind
theorem ar_fg2 {a s c : Int32} : (a + -1 + -1) + (s + 2) = a + s := by grind
theorem fg_step {w0 w1 w2 : Int32} {d v u s : Nat} {x y : Int32} {cd : Nat → Int32} {r : Nat} (hv : v < 8) (hd : d < 8) (h1 : cd r = 1) (ed : cd (r + 1) = nI d) (ex : cd (r + 3) = x) (ey : cd (r + 4) = y)
    (e1 : w1 = w0 + (if v = d ∧ x = nI u then -1 else 0)) (e2 : w2 = w1 + (if v = d ∧ y = nI u then -1 else 0)) : w2 + nI (s + pu_w cd v u r) = w0 + nI s := by
  unfold pu_w
  rw [h1, ed, ex, ey, e2, e1, ← nI_add]
  by_cases z : v = d
  · subst z
    rw [if_pos (show (1 : Int32) = 1 ∧ nI v = nI v from ⟨rfl, rfl⟩)]
    by_cases a : x = nI u
    · by_cases b : y = nI u
      · rw [if_pos ⟨rfl, a⟩, if_pos ⟨rfl, b⟩, if_pos a, if_pos b, show nI (1 + 1) = 2 from rfl]; grind
      · rw [if_pos ⟨rfl, a⟩, if_neg (fun q => b q.2), if_pos a, if_neg b, show nI (1 + 0) = 1 from rfl]; grind
    · by_cases b : y = nI u
      · rw [if_neg (fun q => a q.2), if_pos ⟨rfl, b⟩, if_neg a, if_pos b, show nI (0 + 1) = 1 from rfl]; grind
      · rw [if_neg (fun q => a q.2), if_neg (fun q => b q.2), if_neg a, if_neg b, show nI (0 + 0) = 0 from rfl]; grind
  · rw [if_neg (fun q => z q.1), if_neg (fun q => z q.1), if_neg (fun q => z ((nI_eq (by omega) (by omega)).mp q.2).symm), show nI 0 = 0 from rfl]; grind
theorem xw_forget {post : SX → Prop} {l : Nat} (hs : pu_src V B L sz cd a_stmt a_stmtCount a_term) (hV : V ≤ 8) (hL : L ≤ 6) (hl : l < 16)
    (K : ∀ w : Nat → Int32, (∀ v u, v < V → u < V → w (v * 8 + u) + nI (pu_ws cd v u l (sz l)) = a_uses (v * 8 + u)) → post ((nI V), (nI B), (nI L), (nI Q), f_residualMachine, f_directMachine, f_work, f_opMove, f_opOut, f_countCap, f_cursorLabel, f_residual, f_found, f_codeSize, a_stmt, a_stmtCount, a_term, a_rom, a_initial, a_marked, w, a_dist, a_ptLabel, a_ptKind, a_ptFirst, a_ptSecond, a_before, a_after, a_exitOf, a_head, a_rankOf, a_byRank, a_codeStart, a_codeEnd, a_codeOp, a_codeDst, a_codeMode, a_codeX, a_codeY, a_values, a_status, a_result, a_forks, a_outCount, a_output, a_place)) : wpX_forgetUses post ((nI V), (nI B), (nI L), (nI Q), f_residualMachine, f_directMachine, f_work, f_opMove, f_opOut, f_countCap, f_cursorLabel, f_residual, f_found, f_codeSize, a_stmt, a_stmtCount, a_term, a_rom, a_initial, a_marked, a_uses, a_dist, a_ptLabel, a_ptKind, a_ptFirst, a_ptSecond, a_before, a_after, a_exitOf, a_head, a_rankOf, a_byRank, a_codeStart, a_codeEnd, a_codeOp, a_codeDst, a_codeMode, a_codeX, a_codeY, a_values, a_status, a_result, a_forks, a_outCount, a_output, a_place) (nI l) := by
  have hz := Nat.le_trans (sr_sz hs hl) hL
  have ecl : a_stmtCount (nI l).toNatClampNeg = nI (sz l) := by rw [nI_clamp (by omega), sr_cnt hs hl]
  have il : vp_in (nI l) 16 := vp_in_nI hl (by omega)
  have key : ∀ e i, i + e = sz l → ∀ w : Nat → Int32, (∀ v u, v < V → u < V → w (v * 8 + u) + nI (pu_ws cd v u l i) = a_uses (v * 8 + u)) → ∀ n, e < n → wX_forgetUses_2 post (nI l) n (nI i) (nI V) (nI B) (nI L) (nI Q) f_residualMachine f_directMachine f_work f_opMove f_opOut f_countCap f_cursorLabel f_residual f_found f_codeSize a_stmt a_stmtCount a_term a_rom a_initial a_marked w a_dist a_ptLabel a_ptKind a_ptFirst a_ptSecond a_before a_after a_exitOf a_head a_rankOf a_byRank a_codeStart a_codeEnd a_codeOp a_codeDst a_codeMode a_codeX a_codeY a_values a_status a_result a_forks a_outCount a_output a_place := by
    intro e
    induction e with
    | zero =>
      intro i hi w hw n hn
      obtain ⟨m, rfl⟩ : ∃ m, n = m + 1 := ⟨n - 1, by omega⟩
      obtain rfl : i = sz l := by omega
      exact And.intro il (br_t (by rw [ecl]; exact nI_le (by omega) (by omega)) (K w hw))
    | succ e ih =>
      intro i hi w hw n hn
      obtain ⟨m, rfl⟩ : ∃ m, n = m + 1 := ⟨n - 1, by omega⟩
      refine And.intro il (br_f (by rw [ecl]; exact nI_ge (by omega) (by omega)) (nm_r (ar_st l i) ?_))
      generalize hk : (l * 6 + i) * 5 = k
      have E : ∀ f, f < 5 → a_stmt (k + f) = cd (l * 35 + i * 5 + f) := fun f hf => by rw [← hk]; exact sr_st hs f hl (by omega) hf
      have hk4 : k + 4 < 480 := by omega
      have E0 : a_stmt (nI k).toNatClampNeg = cd (l * 35 + i * 5) := by rw [nI_clamp (by omega)]; exact E 0 (by omega)
      refine And.intro (vp_in_nI (by omega) (by omega)) ?_
      rcases sr_row hs hl (show i < sz l by omega) with ⟨r1, ⟨d, hd, ed⟩, _, r3, r4⟩ | ⟨r2, _⟩
      · have e1 : a_stmt (nI k + 1).toNatClampNeg = nI d := by rw [ar_a1, nI_clamp (by omega), E 1 (by omega), ed]
        have e3 : a_stmt (nI k + 3).toNatClampNeg = cd (l * 35 + i * 5 + 3) := by rw [ar_a3, nI_clamp (by omega), E 3 (by omega)]
        have e4 : a_stmt (nI k + 4).toNatClampNeg = cd (l * 35 + i * 5 + 4) := by rw [ar_a4, nI_clamp (by omega), E 4 (by omega)]
        have i1 : vp_in (nI k + 1) 480 := by rw [ar_a1]; exact vp_in_nI (by omega) (by omega)
        have i3 : vp_in (nI k + 3) 480 := by rw [ar_a3]; exact vp_in_nI (by omega) (by omega)
        have i4 : vp_in (nI k + 4) 480 := by rw [ar_a4]; exact vp_in_nI (by omega) (by omega)
        refine br_t (by rw [E0]; exact r1) (And.intro i1 (And.intro i3 (xw_cuse e1 e3 hV hd r3 (fun w1 hw1 => And.intro i1 (And.intro i4 (xw_cuse e1 e4 hV hd r4 (fun w2 hw2 => nm_r (ar_a1 i) (ih (i + 1) (by omega) w2 ?_ m (by omega)))))))))
        intro v u hv hu
        show _ + nI (pu_ws cd v u l i + pu_w cd v u (l * 35 + i * 5)) = _
        rw [← hw v u hv hu]
        exact fg_step (by omega) (by omega) r1 ed rfl rfl (hw1 v u hv hu) (hw2 v u hv hu)
      · refine br_f (by rw [E0, r2]; decide) (nm_r (ar_a1 i) (ih (i + 1) (by omega) w ?_ m (by omega)))
        intro v u hv hu
        show _ + nI (pu_ws cd v u l i + pu_w cd v u (l * 35 + i * 5)) = _
        rw [← hw v u hv hu, show pu_w cd v u (l * 35 + i * 5) = 0 from if_neg (fun z => absurd (r2.symm.trans z.1) (by decide)), Nat.add_zero]
  exact ⟨sz l + 1, key (sz l) 0 (by omega) a_uses (fun v u _ _ => by show _ + nI 0 = _; rw [nI_0, Int32.add_zero]) _ (by omega)⟩
theorem xw_dropK {post : SX → Prop} (hd : f_residual = 0 → a_status 0 = 0 ∧ a_outCount 0 = 0)
    (K : ∀ rs fk pc : Nat → Int32, rs 1 = a_result 1 → fk 1 = a_forks 1 → pc 1 = a_place 1 → post ((nI V), (nI B), (nI L), (nI Q), f_residualMachine, f_directMachine, f_work, f_opMove, f_opOut, f_countCap, f_cursorLabel, 0, f_found, f_codeSize, a_stmt, a_stmtCount, a_term, a_rom, a_initial, a_marked, a_uses, a_dist, a_ptLabel, a_ptKind, a_ptFirst, a_ptSecond, a_before, a_after, a_exitOf, a_head, a_rankOf, a_byRank, a_codeStart, a_codeEnd, a_codeOp, a_codeDst, a_codeMode, a_codeX, a_codeY, a_values, (upd a_status 0 0), rs, fk, (upd a_outCount 0 0), a_output, pc)) : wpX_drop post ((nI V), (nI B), (nI L), (nI Q), f_residualMachine, f_directMachine, f_work, f_opMove, f_opOut, f_countCap, f_cursorLabel, f_residual, f_found, f_codeSize, a_stmt, a_stmtCount, a_term, a_rom, a_initial, a_marked, a_uses, a_dist, a_ptLabel, a_ptKind, a_ptFirst, a_ptSecond, a_before, a_after, a_exitOf, a_head, a_rankOf, a_byRank, a_codeStart, a_codeEnd, a_codeOp, a_codeDst, a_codeMode, a_codeX, a_codeY, a_values, a_status, a_result, a_forks, a_outCount, a_output, a_place) := by
  refine xw_drop (fun h => ?_) (fun h => ?_)
  · obtain ⟨h1, h2⟩ := hd h
    have := K a_result a_forks a_place rfl rfl rfl
    rw [ar_upd_self h1, ar_upd_self h2] at this
    subst h
    exact this
  · exact K _ _ _ (pk_un (by decide)) (pk_un (by decide)) (pk_un (by decide))
theorem xw_append {post : SX → Prop} {C s : Nat} {p0 p1 p2 p3 p4 : Int32} (hC : C < 16) (hs : a_stmtCount C = nI s) (h6 : s < 6) (hd : f_residual = 0 → a_status 0 = 0 ∧ a_outCount 0 = 0)
    (K : ∀ rs fk pc : Nat → Int32, rs 1 = a_result 1 → fk 1 = a_forks 1 → pc 1 = a_place 1 → post ((nI V), (nI B), (nI L), (nI Q), f_residualMachine, f_directMachine, f_work, f_opMove, f_opOut, f_countCap, (nI C), 0, f_found, f_codeSize, (pu_p5 a_stmt ((C * 6 + s) * 5) p0 p1 p2 p3 p4), (upd a_stmtCount C (nI (s + 1))), a_term, a_rom, a_initial, a_marked, a_uses, a_dist, a_ptLabel, a_ptKind, a_ptFirst, a_ptSecond, a_before, a_after, a_exitOf, a_head, a_rankOf, a_byRank, a_codeStart, a_codeEnd, a_codeOp, a_codeDst, a_codeMode, a_codeX, a_codeY, a_values, (upd a_status 0 0), rs, fk, (upd a_outCount 0 0), a_output, pc)) :
    wpX_append post ((nI V), (nI B), (nI L), (nI Q), f_residualMachine, f_directMachine, f_work, f_opMove, f_opOut, f_countCap, (nI C), f_residual, f_found, f_codeSize, a_stmt, a_stmtCount, a_term, a_rom, a_initial, a_marked, a_uses, a_dist, a_ptLabel, a_ptKind, a_ptFirst, a_ptSecond, a_before, a_after, a_exitOf, a_head, a_rankOf, a_byRank, a_codeStart, a_codeEnd, a_codeOp, a_codeDst, a_codeMode, a_codeX, a_codeY, a_values, a_status, a_result, a_forks, a_outCount, a_output, a_place) p0 p1 p2 p3 p4 := by
  have iC : vp_in (nI C) 16 := vp_in_nI hC (by omega)
  have eC : (nI C).toNatClampNeg = C := nI_clamp (by omega)
  refine And.intro iC (nm_r (e' := nI ((C * 6 + s) * 5)) (by rw [eC, hs, ar_st]) ?_)
  generalize hk : (C * 6 + s) * 5 = k
  rw [hk] at K
  have ek : (nI k).toNatClampNeg = k := nI_clamp (by omega)
  have ek1 : (nI k + 1).toNatClampNeg = k + 1 := by rw [ar_a1, nI_clamp (by omega)]
  have ek2 : (nI k + 2).toNatClampNeg = k + 2 := by rw [ar_a2, nI_clamp (by omega)]
  have ek3 : (nI k + 3).toNatClampNeg = k + 3 := by rw [ar_a3, nI_clamp (by omega)]
  have ek4 : (nI k + 4).toNatClampNeg = k + 4 := by rw [ar_a4, nI_clamp (by omega)]
  refine And.intro (vp_in_nI (by omega) (by omega)) (nm_r (congrArg (fun z => upd a_stmt z p0) ek) ?_)
  refine And.intro (by rw [ar_a1]; exact vp_in_nI (by omega) (by omega)) (nm_r (congrArg (fun z => upd _ z p1) ek1) ?_)
  refine And.intro (by rw [ar_a2]; exact vp_in_nI (by omega) (by omega)) (nm_r (congrArg (fun z => upd _ z p2) ek2) ?_)
  refine And.intro (by rw [ar_a3]; exact vp_in_nI (by omega) (by omega)) (nm_r (congrArg (fun z => upd _ z p3) ek3) ?_)
  refine And.intro (by rw [ar_a4]; exact vp_in_nI (by omega) (by omega)) (nm_r (congrArg (fun z => upd _ z p4) ek4) ?_)
  refine And.intro iC (And.intro iC (nm_r (e' := upd a_stmtCount C (nI (s + 1))) (by rw [eC, hs, ar_a1]) ?_))
  exact xw_dropK hd K
theorem xw_room {post : Int32 → Prop} {C s : Nat} (hC : C < 16) (hs : a_stmtCount C = nI s) (h6 : s < 2 ^ 31) (hL : L ≤ 6) (h1 : ¬ a_term (C * 5) = 0 → post (-3)) (h2 : a_term (C * 5) = 0 → ¬ s < L → post (-2)) (h3 : a_term (C * 5) = 0 → s < L → post 0) :
    wpX_checkRoom post ((nI V), (nI B), (nI L), (nI Q), f_residualMachine, f_directMachine, f_work, f_opMove, f_opOut, f_countCap, (nI C), f_residual, f_found, f_codeSize, a_stmt, a_stmtCount, a_term, a_rom, a_initial, a_marked, a_uses, a_dist, a_ptLabel, a_ptKind, a_ptFirst, a_ptSecond, a_before, a_after, a_exitOf, a_head, a_rankOf, a_byRank, a_codeStart, a_codeEnd, a_codeOp, a_codeDst, a_codeMode, a_codeX, a_codeY, a_values, a_status, a_result, a_forks, a_outCount, a_output, a_place) := by
  have e5 : (nI C * 5).toNatClampNeg = C * 5 := by rw [ar_m5, nI_clamp (by omega)]
  have eC : (nI C).toNatClampNeg = C := nI_clamp (by omega)
  refine And.intro (by rw [ar_m5]; exact vp_in_nI (by omega) (by omega)) (br_c (fun h => ?_) (fun h => ?_))
  · rw [e5] at h
    refine And.intro (vp_in_nI hC (by omega)) (br_c (fun g => ?_) (fun g => ?_))
    · rw [eC, hs, nI_ltI h6 (by omega)] at g; exact h3 h g
    · rw [eC, hs, nI_ltI h6 (by omega)] at g; exact h2 h g
  · rw [e5] at h; exact h1 h
theorem xw_close {post : Int32 → SX → Prop} {C : Nat} {p0 p1 p2 p3 : Int32} (hC : C < 16) (hB : B ≤ 16) (hd : f_residual = 0 → a_status 0 = 0 ∧ a_outCount 0 = 0)
    (h1 : ¬ a_term (C * 5) = 0 → post (-3) ((nI V), (nI B), (nI L), (nI Q), f_residualMachine, f_directMachine, f_work, f_opMove, f_opOut, f_countCap, (nI C), f_residual, f_found, f_codeSize, a_stmt, a_stmtCount, a_term, a_rom, a_initial, a_marked, a_uses, a_dist, a_ptLabel, a_ptKind, a_ptFirst, a_ptSecond, a_before, a_after, a_exitOf, a_head, a_rankOf, a_byRank, a_codeStart, a_codeEnd, a_codeOp, a_codeDst, a_codeMode, a_codeX, a_codeY, a_values, a_status, a_result, a_forks, a_outCount, a_output, a_place))
    (K : a_term (C * 5) = 0 → ∀ rs fk pc : Nat → Int32, rs 1 = a_result 1 → fk 1 = a_forks 1 → pc 1 = a_place 1 → post 0 ((nI V), (nI B), (nI L), (nI Q), f_residualMachine, f_directMachine, f_work, f_opMove, f_opOut, f_countCap, (nI (if C + 1 < B then C + 1 else C)), 0, f_found, f_codeSize, a_stmt, a_stmtCount, (pu_p4 a_term (C * 5) p0 p1 p2 p3), a_rom, a_initial, a_marked, a_uses, a_dist, a_ptLabel, a_ptKind, a_ptFirst, a_ptSecond, a_before, a_after, a_exitOf, a_head, a_rankOf, a_byRank, a_codeStart, a_codeEnd, a_codeOp, a_codeDst, a_codeMode, a_codeX, a_codeY, a_values, (upd a_status 0 0), rs, fk, (upd a_outCount 0 0), a_output, pc)) :
    wpX_close post ((nI V), (nI B), (nI L), (nI Q), f_residualMachine, f_directMachine, f_work, f_opMove, f_opOut, f_countCap, (nI C), f_residual, f_found, f_codeSize, a_stmt, a_stmtCount, a_term, a_rom, a_initial, a_marked, a_uses, a_dist, a_ptLabel, a_ptKind, a_ptFirst, a_ptSecond, a_before, a_after, a_exitOf, a_head, a_rankOf, a_byRank, a_codeStart, a_codeEnd, a_codeOp, a_codeDst, a_codeMode, a_codeX, a_codeY, a_values, a_status, a_result, a_forks, a_outCount, a_output, a_place) p0 p1 p2 p3 := by
  refine nm_r (ar_m5 C) ?_
  generalize hk : C * 5 = k
  rw [hk] at K h1
  have ek : (nI k).toNatClampNeg = k := nI_clamp (by omega)
  have ek1 : (nI k + 1).toNatClampNeg = k + 1 := by rw [ar_a1, nI_clamp (by omega)]
  have ek2 : (nI k + 2).toNatClampNeg = k + 2 := by rw [ar_a2, nI_clamp (by omega)]
  have ek3 : (nI k + 3).toNatClampNeg = k + 3 := by rw [ar_a3, nI_clamp (by omega)]
  have ik : vp_in (nI k) 80 := vp_in_nI (by omega) (by omega)
  refine And.intro ik (br_c (fun h => ?_) (fun h => h1 (by rw [ek] at h; exact h)))
  rw [ek] at h
  refine And.intro ik (nm_r (congrArg (fun z => upd a_term z p0) ek) ?_)
  refine And.intro (by rw [ar_a1]; exact vp_in_nI (by omega) (by omega)) (nm_r (congrArg (fun z => upd _ z p1) ek1) ?_)
  refine And.intro (by rw [ar_a2]; exact vp_in_nI (by omega) (by omega)) (nm_r (congrArg (fun z => upd _ z p2) ek2) ?_)
  refine And.intro (by rw [ar_a3]; exact vp_in_nI (by omega) (by omega)) (nm_r (congrArg (fun z => upd _ z p3) ek3) ?_)
  refine xw_dropK hd (fun rs fk pc e1 e2 e3 => ?_)
  have K := K h rs fk pc e1 e2 e3
  refine br_c (fun g => ?_) (fun g => ?_)
  · rw [ar_a1, nI_leI (by omega) (by omega)] at g
    rw [if_neg (by omega)] at K
    exact K
  · rw [ar_a1, nI_leI (by omega) (by omega)] at g
    rw [if_pos (by omega)] at K
    exact nm_r (ar_a1 C) K
theorem xw_block24 {post : Int32 → SX → Prop} {C : Nat} {dep : Nat → Nat → Prop} (hC : C < 16) (hV1 : 1 ≤ V) (hV : V ≤ 8) (hu : ∀ v u, v < V → u < V → (0 < a_uses (v * 8 + u) ↔ dep v u)) (hd : f_residual = 0 → a_status 0 = 0 ∧ a_outCount 0 = 0)
    (K : ∀ a_term' a_dist', (∀ f, f < 5 → a_term' (C * 5 + f) = 0) → (∀ j, (j < C * 5 ∨ C * 5 + 5 ≤ j) → a_term' j = a_term j) → (∀ v, v < V → pu_dist V a_marked dep v (a_dist' v)) →
      ∀ rs fk pc : Nat → Int32, rs 1 = a_result 1 → fk 1 = a_forks 1 → pc 1 = a_place 1 → post 0 ((nI V), (nI B), (nI L), (nI Q), f_residualMachine, f_directMachine, f_work, f_opMove, f_opOut, f_countCap, (nI C), 0, f_found, f_codeSize, a_stmt, a_stmtCount, a_term', a_rom, a_initial, a_marked, a_uses, a_dist', a_ptLabel, a_ptKind, a_ptFirst, a_ptSecond, a_before, a_after, a_exitOf, a_head, a_rankOf, a_byRank, a_codeStart, a_codeEnd, a_codeOp, a_codeDst, a_codeMode, a_codeX, a_codeY, a_values, (upd a_status 0 0), rs, fk, (upd a_outCount 0 0), a_output, pc)) :
    ∀ e i, i + e = 5 → ∀ t : Nat → Int32, (∀ f, f < i → t (C * 5 + f) = 0) → (∀ j, (j < C * 5 ∨ C * 5 + 5 ≤ j) → t j = a_term j) → ∀ n, e < n → wX_block_24 post (nI C) (nI V) (nI B) (nI L) (nI Q) f_residualMachine f_directMachine f_work f_opMove f_opOut f_countCap f_cursorLabel f_residual f_found f_codeSize n (nI i) a_stmt a_stmtCount t a_rom a_initial a_marked a_uses a_dist a_ptLabel a_ptKind a_ptFirst a_ptSecond a_before a_after a_exitOf a_head a_rankOf a_byRank a_codeStart a_codeEnd a_codeOp a_codeDst a_codeMode a_codeX a_codeY a_values a_status a_result a_forks a_outCount a_output a_place := by
  intro e
  induction e with
  | zero =>
    intro i hi t h1 h2 n hn
    obtain ⟨m, rfl⟩ : ∃ m, n = m + 1 := ⟨n - 1, by omega⟩
    refine br_t (nI_le (a := 5) (by omega) (by omega)) ?_
    exact xw_analyse hV1 hV hu (fun a_dist' h3 => xw_dropK hd (K t a_dist' (fun f hf => h1 f (by omega)) h2 h3))
  | succ e ih =>
    intro i hi t h1 h2 n hn
    obtain ⟨m, rfl⟩ : ∃ m, n = m + 1 := ⟨n - 1, by omega⟩
    have e5 : nI C * 5 + nI i = nI (C * 5 + i) := by rw [ar_m5, nI_add]
    refine br_f (nI_ge (b := 5) (by omega) (by omega)) (And.intro (by rw [e5]; exact vp_in_nI (by omega) (by omega)) (nm_r (e' := upd t (C * 5 + i) 0) (by rw [e5, nI_clamp (by omega)]) (nm_r (ar_a1 i) (ih (i + 1) (by omega) _ (lt_s (fun f hf => ?_) pk_us) (fun j hj => ?_) m (by omega)))))
    · rw [pk_un (by omega)]; exact h1 f hf
    · rw [pk_un (by omega)]; exact h2 j hj
end
end
section
section
variable {V B L Q : Nat} {g_cursor g_points g_dyn g_at g_place : Int32} {b_code b_size b_rom b_init b_marked b_pLabel b_pVal b_status b_result b_forks b_outs b_out b_val : Nat → Int32} {sz : Nat → Nat}
theorem yw_var1 {post : Int32 → Prop} {j : Nat} (hj : j < V) (hV : V ≤ 8) (K : post 0) : wpY_badVar post ((nI V), (nI B), (nI L), (nI Q), g_cursor, g_points, g_dyn, g_at, g_place, b_code, b_size, b_rom, b_init, b_marked, b_pLabel, b_pVal, b_status, b_result, b_forks, b_outs, b_out, b_val) (nI j) :=
  br_f (nI_pos (by omega)) (br_t (nI_lt hj (by omega)) K)
theorem yw_var0 {post : Int32 → Prop} {x : Int32} (h : x < 0 ∨ nI V ≤ x) (K : post 1) : wpY_badVar post ((nI V), (nI B), (nI L), (nI Q), g_cursor, g_points, g_dyn, g_at, g_place, b_code, b_size, b_rom, b_init, b_marked, b_pLabel, b_pVal, b_status, b_result, b_forks, b_outs, b_out, b_val) x := by
  by_cases h0 : x < 0
  · exact br_t h0 K
  · exact br_f h0 (br_f (ar_nlt (h.resolve_left h0)) K)
theorem yw_lab1 {post : Int32 → Prop} {j : Nat} (hj : j < B) (hB : B ≤ 16) (K : post 0) : wpY_badLabel post ((nI V), (nI B), (nI L), (nI Q), g_cursor, g_points, g_dyn, g_at, g_place, b_code, b_size, b_rom, b_init, b_marked, b_pLabel, b_pVal, b_status, b_result, b_forks, b_outs, b_out, b_val) (nI j) :=
  br_f (nI_pos (by omega)) (br_t (nI_lt hj (by omega)) K)
theorem yw_lab0 {post : Int32 → Prop} {x : Int32} (h : x < 0 ∨ nI B ≤ x) (K : post 1) : wpY_badLabel post ((nI V), (nI B), (nI L), (nI Q), g_cursor, g_points, g_dyn, g_at, g_place, b_code, b_size, b_rom, b_init, b_marked, b_pLabel, b_pVal, b_status, b_result, b_forks, b_outs, b_out, b_val) x := by
  by_cases h0 : x < 0
  · exact br_t h0 K
  · exact br_f h0 (br_f (ar_nlt (h.resolve_left h0)) K)
theorem yw_drop {post : SY → Prop} (K : post ((nI V), (nI B), (nI L), (nI Q), g_cursor, 0, g_dyn, g_at, g_place, b_code, b_size, b_rom, b_init, b_marked, b_pLabel, b_pVal, (upd b_status 0 0), b_result, b_forks, b_outs, b_out, b_val)) : wpY_drop post ((nI V), (nI B), (nI L), (nI Q), g_cursor, g_points, g_dyn, g_at, g_place, b_code, b_size, b_rom, b_init, b_marked, b_pLabel, b_pVal, b_status, b_result, b_forks, b_outs, b_out, b_val) := nm_e K
theorem yw_append {post : Int32 → SY → Prop} {C s : Nat} {p0 p1 p2 p3 p4 : Int32} (hC : C < 16) (hs : b_size C = nI s) (h6 : s ≤ 6) (hL : L ≤ 6)
    (h1 : ¬ b_code (C * 35 + s * 5) = 0 → post (-3) ((nI V), (nI B), (nI L), (nI Q), (nI C), g_points, g_dyn, g_at, g_place, b_code, b_size, b_rom, b_init, b_marked, b_pLabel, b_pVal, b_status, b_result, b_forks, b_outs, b_out, b_val)) (h2 : b_code (C * 35 + s * 5) = 0 → ¬ s < L → post (-2) ((nI V), (nI B), (nI L), (nI Q), (nI C), g_points, g_dyn, g_at, g_place, b_code, b_size, b_rom, b_init, b_marked, b_pLabel, b_pVal, b_status, b_result, b_forks, b_outs, b_out, b_val))
    (K : b_code (C * 35 + s * 5) = 0 → s < L → post 0 ((nI V), (nI B), (nI L), (nI Q), (nI C), 0, g_dyn, g_at, g_place, (pu_p5 b_code (C * 35 + s * 5) p0 p1 p2 p3 p4), (upd b_size C (nI (s + 1))), b_rom, b_init, b_marked, b_pLabel, b_pVal, (upd b_status 0 0), b_result, b_forks, b_outs, b_out, b_val)) :
    wpY_append post ((nI V), (nI B), (nI L), (nI Q), (nI C), g_points, g_dyn, g_at, g_place, b_code, b_size, b_rom, b_init, b_marked, b_pLabel, b_pVal, b_status, b_result, b_forks, b_outs, b_out, b_val) p0 p1 p2 p3 p4 := by
  have iC : vp_in (nI C) 16 := vp_in_nI hC (by omega)
  have eC : (nI C).toNatClampNeg = C := nI_clamp (by omega)
  refine And.intro iC (nm_r (e' := nI (C * 35 + s * 5)) (by rw [eC, hs, ar_cd]) ?_)
  generalize hk : C * 35 + s * 5 = k
  rw [hk] at K h1 h2
  have ek : (nI k).toNatClampNeg = k := nI_clamp (by omega)
  have ek1 : (nI k + 1).toNatClampNeg = k + 1 := by rw [ar_a1, nI_clamp (by omega)]
  have ek2 : (nI k + 2).toNatClampNeg = k + 2 := by rw [ar_a2, nI_clamp (by omega)]
  have ek3 : (nI k + 3).toNatClampNeg = k + 3 := by rw [ar_a3, nI_clamp (by omega)]
  have ek4 : (nI k + 4).toNatClampNeg = k + 4 := by rw [ar_a4, nI_clamp (by omega)]
  have ik : vp_in (nI k) 560 := vp_in_nI (by omega) (by omega)
  refine And.intro ik (br_c (fun h => ?_) (fun h => h1 (by rw [ek] at h; exact h)))
  rw [ek] at h
  refine And.intro iC (br_c (fun g => ?_) (fun g => h2 h (by rw [eC, hs, nI_ltI (by omega) (by omega)] at g; exact g)))
  rw [eC, hs, nI_ltI (by omega) (by omega)] at g
  refine And.intro ik (nm_r (congrArg (fun z => upd b_code z p0) ek) ?_)
  refine And.intro (by rw [ar_a1]; exact vp_in_nI (by omega) (by omega)) (nm_r (congrArg (fun z => upd _ z p1) ek1) ?_)
  refine And.intro (by rw [ar_a2]; exact vp_in_nI (by omega) (by omega)) (nm_r (congrArg (fun z => upd _ z p2) ek2) ?_)
  refine And.intro (by rw [ar_a3]; exact vp_in_nI (by omega) (by omega)) (nm_r (congrArg (fun z => upd _ z p3) ek3) ?_)
  refine And.intro (by rw [ar_a4]; exact vp_in_nI (by omega) (by omega)) (nm_r (congrArg (fun z => upd _ z p4) ek4) ?_)
  refine And.intro iC (And.intro iC (nm_r (e' := upd b_size C (nI (s + 1))) (by rw [eC, hs, ar_a1]) ?_))
  exact yw_drop (K h g)
theorem yw_close {post : Int32 → SY → Prop} {C s : Nat} {p0 p1 p2 p3 : Int32} (hC : C < 16) (hs : b_size C = nI s) (h6 : s ≤ 6) (hB : B ≤ 16)
    (h1 : ¬ b_code (C * 35 + s * 5) = 0 → post (-3) ((nI V), (nI B), (nI L), (nI Q), (nI C), g_points, g_dyn, g_at, g_place, b_code, b_size, b_rom, b_init, b_marked, b_pLabel, b_pVal, b_status, b_result, b_forks, b_outs, b_out, b_val))
    (K : b_code (C * 35 + s * 5) = 0 → post 0 ((nI V), (nI B), (nI L), (nI Q), (nI (if C + 1 < B then C + 1 else C)), 0, g_dyn, g_at, g_place, (pu_p4 b_code (C * 35 + s * 5) p0 p1 p2 p3), b_size, b_rom, b_init, b_marked, b_pLabel, b_pVal, (upd b_status 0 0), b_result, b_forks, b_outs, b_out, b_val)) :
    wpY_close post ((nI V), (nI B), (nI L), (nI Q), (nI C), g_points, g_dyn, g_at, g_place, b_code, b_size, b_rom, b_init, b_marked, b_pLabel, b_pVal, b_status, b_result, b_forks, b_outs, b_out, b_val) p0 p1 p2 p3 := by
  have iC : vp_in (nI C) 16 := vp_in_nI hC (by omega)
  have eC : (nI C).toNatClampNeg = C := nI_clamp (by omega)
  refine And.intro iC (nm_r (e' := nI (C * 35 + s * 5)) (by rw [eC, hs, ar_cd]) ?_)
  generalize hk : C * 35 + s * 5 = k
  rw [hk] at K h1
  have ek : (nI k).toNatClampNeg = k := nI_clamp (by omega)
  have ek1 : (nI k + 1).toNatClampNeg = k + 1 := by rw [ar_a1, nI_clamp (by omega)]
  have ek2 : (nI k + 2).toNatClampNeg = k + 2 := by rw [ar_a2, nI_clamp (by omega)]
  have ek3 : (nI k + 3).toNatClampNeg = k + 3 := by rw [ar_a3, nI_clamp (by omega)]
  have ik : vp_in (nI k) 560 := vp_in_nI (by omega) (by omega)
  refine And.intro ik (br_c (fun h => ?_) (fun h => h1 (by rw [ek] at h; exact h)))
  rw [ek] at h
  refine And.intro ik (nm_r (congrArg (fun z => upd b_code z p0) ek) ?_)
  refine And.intro (by rw [ar_a1]; exact vp_in_nI (by omega) (by omega)) (nm_r (congrArg (fun z => upd _ z p1) ek1) ?_)
  refine And.intro (by rw [ar_a2]; exact vp_in_nI (by omega) (by omega)) (nm_r (congrArg (fun z => upd _ z p2) ek2) ?_)
  refine And.intro (by rw [ar_a3]; exact vp_in_nI (by omega) (by omega)) (nm_r (congrArg (fun z => upd _ z p3) ek3) ?_)
  refine yw_drop ?_
  have K := K h
  refine br_c (fun g => ?_) (fun g => ?_)
  · rw [ar_a1, nI_leI (by omega) (by omega)] at g
    rw [if_neg (by omega)] at K
    exact K
  · rw [ar_a1, nI_leI (by omega) (by omega)] at g
    rw [if_pos (by omega)] at K
    exact nm_r (ar_a1 C) K
theorem yw_block {post : Int32 → SY → Prop} {C : Nat} (hC : C < B) (hB : B ≤ 16)
    (K : ∀ c : Nat → Int32, (∀ f, f < 35 → c (C * 35 + f) = 0) → (∀ j, (j < C * 35 ∨ C * 35 + 35 ≤ j) → c j = b_code j) → post 0 ((nI V), (nI B), (nI L), (nI Q), (nI C), 0, g_dyn, g_at, g_place, c, (upd b_size C 0), b_rom, b_init, b_marked, b_pLabel, b_pVal, (upd b_status 0 0), b_result, b_forks, b_outs, b_out, b_val)) :
    wpY_block post ((nI V), (nI B), (nI L), (nI Q), g_cursor, g_points, g_dyn, g_at, g_place, b_code, b_size, b_rom, b_init, b_marked, b_pLabel, b_pVal, b_status, b_result, b_forks, b_outs, b_out, b_val) (nI C) := by
  have key : ∀ e i, i + e = 35 → ∀ c : Nat → Int32, (∀ f, f < i → c (C * 35 + f) = 0) → (∀ j, (j < C * 35 ∨ C * 35 + 35 ≤ j) → c j = b_code j) → ∀ n, e < n → wY_block_17 post (nI C) (nI V) (nI B) (nI L) (nI Q) (nI C) g_points g_dyn g_at g_place n (nI i) c b_size b_rom b_init b_marked b_pLabel b_pVal b_status b_result b_forks b_outs b_out b_val := by
    intro e
    induction e with
    | zero =>
      intro i hi t h1 h2 n hn
      obtain ⟨m, rfl⟩ : ∃ m, n = m + 1 := ⟨n - 1, by omega⟩
      refine br_t (nI_le (a := 35) (by omega) (by omega)) (And.intro (vp_in_nI (by omega) (by omega)) (nm_r (e' := upd b_size C 0) (by rw [nI_clamp (by omega)]) (yw_drop (K t (fun f hf => h1 f (by omega)) h2))))
    | succ e ih =>
      intro i hi t h1 h2 n hn
      obtain ⟨m, rfl⟩ : ∃ m, n = m + 1 := ⟨n - 1, by omega⟩
      refine br_f (nI_ge (b := 35) (by omega) (by omega)) (And.intro (by rw [ar_m35]; exact vp_in_nI (by omega) (by omega)) (nm_r (e' := upd t (C * 35 + i) 0) (by rw [ar_m35, nI_clamp (by omega)]) (nm_r (ar_a1 i) (ih (i + 1) (by omega) _ (lt_s (fun f hf => ?_) pk_us) (fun j hj => ?_) m (by omega)))))
      · rw [pk_un (by omega)]; exact h1 f hf
      · rw [pk_un (by omega)]; exact h2 j hj
  unfold wpY_block
  exact yw_lab1 hC hB (br_t rfl ⟨36, key 35 0 (by omega) b_code (fun f hf => by omega) (fun j _ => rfl) _ (by omega)⟩)
/-! has, value, apply -/
theorem yw_has {post : Int32 → Prop} {s o : Int32} (h1 : pu_has s o = true → post 1) (h0 : pu_has s o = false → post 0) : wpY_has post ((nI V), (nI B), (nI L), (nI Q), g_cursor, g_points, g_dyn, g_at, g_place, b_code, b_size, b_rom, b_init, b_marked, b_pLabel, b_pVal, b_status, b_result, b_forks, b_outs, b_out, b_val) s o := by
  refine br_c (fun h => h0 (ha_neg h)) (fun h => br_c (fun g => h1 (decide_eq_true ⟨h, g⟩)) (fun g => h0 (decide_eq_false (fun z => g z.2))))
theorem yw_romAt {post : Int32 → Prop} {x : Int32} (K : post (pu_rm b_rom x)) : wpY_romAt post ((nI V), (nI B), (nI L), (nI Q), g_cursor, g_points, g_dyn, g_at, g_place, b_code, b_size, b_rom, b_init, b_marked, b_pLabel, b_pVal, b_status, b_result, b_forks, b_outs, b_out, b_val) x := by
  unfold pu_rm at K
  refine br_c (fun h => ?_) (fun h => ?_)
  · rw [if_pos h] at K; exact K
  · rw [if_neg h] at K
    refine br_c (fun h2 => ?_) (fun h2 => ?_)
    · rw [if_pos h2] at K; exact ⟨ar_in16 h h2, K⟩
    · rw [if_neg h2] at K; exact K
theorem yw_apply {post : Int32 → Prop} {op x y : Int32} (K : post (pu_ap b_rom op x y)) : wpY_apply post ((nI V), (nI B), (nI L), (nI Q), g_cursor, g_points, g_dyn, g_at, g_place, b_code, b_size, b_rom, b_init, b_marked, b_pLabel, b_pVal, b_status, b_result, b_forks, b_outs, b_out, b_val) op x y := by
  unfold pu_ap at K
  refine br_c (fun e => ?_) (fun e0 => ?_)
  · rw [if_pos e] at K; exact K
  rw [if_neg e0] at K
  refine br_c (fun e => ?_) (fun e1 => ?_)
  · rw [if_pos e] at K; exact K
  rw [if_neg e1] at K
  refine br_c (fun e => ?_) (fun e2 => ?_)
  · rw [if_pos e] at K; exact K
  rw [if_neg e2] at K
  refine br_c (fun e => ?_) (fun e3 => ?_)
  · rw [if_pos e] at K
    refine br_c (fun z => ?_) (fun z => ?_)
    · rw [if_pos z] at K; exact K
    · rw [if_neg z] at K; exact ⟨z, K⟩
  rw [if_neg e3] at K
  refine br_c (fun e => ?_) (fun e4 => ?_)
  · rw [if_pos e] at K
    refine br_c (fun z => ?_) (fun z => ?_)
    · rw [if_pos z] at K; exact K
    · rw [if_neg z] at K; exact ⟨z, K⟩
  rw [if_neg e4] at K
  refine br_c (fun e => ?_) (fun e5 => ?_)
  · rw [if_pos e] at K; exact K
  rw [if_neg e5] at K
  refine br_c (fun e => ?_) (fun e6 => ?_)
  · rw [if_pos e] at K; exact K
  rw [if_neg e6] at K
  refine br_c (fun e => ?_) (fun e7 => ?_)
  · rw [if_pos e] at K
    refine br_c (fun z => ?_) (fun z => ?_)
    · rw [if_pos z] at K; exact K
    · rw [if_neg z] at K; exact K
  rw [if_neg e7] at K
  refine br_c (fun e => ?_) (fun e8 => ?_)
  · rw [if_pos e] at K
    refine br_c (fun z => ?_) (fun z => ?_)
    · rw [if_pos z] at K; exact K
    · rw [if_neg z] at K; exact K
  rw [if_neg e8] at K
  exact yw_romAt K
theorem yw_value {post : Int32 → Prop} {o o' : Int32} {b : Nat} (eo : o' = o) (hV : V ≤ 8) (hb : b ≤ 2) (ho : pu_op V o) (K : post (pu_ov (fun v => b_val (b * 8 + v)) o)) : wpY_value post ((nI V), (nI B), (nI L), (nI Q), g_cursor, g_points, g_dyn, g_at, g_place, b_code, b_size, b_rom, b_init, b_marked, b_pLabel, b_pVal, b_status, b_result, b_forks, b_outs, b_out, b_val) (nI b) o' := by
  subst eo
  rcases ho with h | ⟨j, hj, rfl⟩
  · rw [ov_neg h] at K; exact br_f (ar_nle h) K
  · rw [ov_var (by omega)] at K
    refine br_t (nI_pos' (by omega)) (And.intro ?_ ?_)
    · rw [ar_m8]; exact vp_in_nI (by omega) (by omega)
    · rw [ar_m8, nI_clamp (by omega)]; exact K
end
end
section
theorem sr_row1 {V B L : Nat} {sz : Nat → Nat} {cd stmt cnt term : Nat → Int32} (h : pu_src V B L sz cd stmt cnt term) (hL : L ≤ 6) {ρ : Nat} (hρ : ρ < 112) (h1 : cd (ρ * 5) = 1) : ∃ l i, l < 16 ∧ i < sz l ∧ ρ * 5 = l * 35 + i * 5 := by
  have e : ρ * 5 = ρ / 7 * 35 + ρ % 7 * 5 := by omega
  have hl : ρ / 7 < 16 := by omega
  have hz := Nat.le_trans (sr_sz h hl) hL
  refine ⟨ρ / 7, ρ % 7, hl, ?_, e⟩
  apply Classical.byContradiction
  intro z
  by_cases y : ρ % 7 = sz (ρ / 7)
  · rw [e, y] at h1
    rcases sr_ter h hl with t | t | t | t
    · have := t 0 (by omega); rw [Nat.add_zero, h1] at this; exact absurd this (by decide)
    · exact absurd (h1.symm.trans t.1) (by decide)
    · exact absurd (h1.symm.trans t.1) (by decide)
    · exact absurd (h1.symm.trans t.1) (by decide)
  · have := sr_0 h (i := ρ % 7) (f := 0) hl (by omega) (by omega) (by omega)
    rw [Nat.add_zero, ← e, h1] at this; exact absurd this (by decide)
section
variable {V B L Q : Nat} {g_cursor g_points g_dyn g_at g_place : Int32} {b_code b_size b_rom b_init b_marked b_pLabel b_pVal b_status b_result b_forks b_outs b_out b_val : Nat → Int32} {sz : Nat → Nat} {stmt cnt term : Nat → Int32}
def pu_rd (cd : Nat → Int32) (s : Int32) (ρ v : Nat) : Prop := cd (ρ * 5) = 1 ∧ cd (ρ * 5 + 1) = nI v ∧ (pu_has s (cd (ρ * 5 + 3)) = true ∨ pu_has s (cd (ρ * 5 + 4)) = true)
theorem yw_d116 {post : Int32 → Prop} {J46 J69 : Int32 → Int32 → Prop} {x1 x2 x3 x4 : Int32} {ρ : Nat} {z : Int32} (hρ : ρ < 112) (hs : pu_src V B L sz b_code stmt cnt term) (hV : V ≤ 8) (hL : L ≤ 6)
    (hz : (z = 0 ∧ ¬ (pu_has x2 (b_code (ρ * 5 + 3)) = true ∨ pu_has x2 (b_code (ρ * 5 + 4)) = true)) ∨ (¬ z = 0 ∧ (pu_has x2 (b_code (ρ * 5 + 3)) = true ∨ pu_has x2 (b_code (ρ * 5 + 4)) = true)))
    (K : ∀ y, (∀ v, v < 8 → (pu_has y (nI v) = true ↔ (pu_has x4 (nI v) = true ∨ pu_rd b_code x2 ρ v))) → J69 y (nI ((ρ + 1) * 5))) :
    wY_distance_116 post J46 J69 x1 x2 x3 x4 (nI (ρ * 5)) z (nI V) (nI B) (nI L) (nI Q) g_cursor g_points g_dyn g_at g_place b_code b_size b_rom b_init b_marked b_pLabel b_pVal b_status b_result b_forks b_outs b_out b_val := by
  have e5 : nI (ρ * 5) + 5 = nI ((ρ + 1) * 5) := by rw [ar_a5]; congr 1; omega
  have ec : (nI (ρ * 5)).toNatClampNeg = ρ * 5 := nI_clamp (by omega)
  have ec1 : (nI (ρ * 5) + 1).toNatClampNeg = ρ * 5 + 1 := by rw [ar_a1, nI_clamp (by omega)]
  have no : ¬ (b_code (ρ * 5) = 1 ∧ (pu_has x2 (b_code (ρ * 5 + 3)) = true ∨ pu_has x2 (b_code (ρ * 5 + 4)) = true)) → J69 x4 (nI ((ρ + 1) * 5)) :=
    fun h => K x4 (fun v hv => ⟨Or.inl, fun q => q.elim id (fun q => absurd ⟨q.1, q.2.2⟩ h)⟩)
  refine And.intro (vp_in_nI (by omega) (by omega)) (br_c (fun h => ?_) (fun h => nm_r e5 (no (fun q => h (by rw [ec]; exact q.1)))))
  rw [ec] at h
  rcases hz with ⟨a, b⟩ | ⟨a, b⟩
  · exact br_t a (nm_r e5 (no (fun q => b q.2)))
  · obtain ⟨l, i, hl, hi, e⟩ := sr_row1 hs hL hρ h
    rcases sr_row hs hl hi with ⟨_, ⟨d, hd, ed⟩, _⟩ | ⟨r2, _⟩
    · rw [← e] at ed
      refine br_f a (And.intro (by rw [ar_a1]; exact vp_in_nI (by omega) (by omega)) (nm_r (e' := x4 ||| ((1 : Int32) <<< (nI d &&& 31))) (by rw [ec1, ed]) (nm_r e5 (K _ (fun v hv => ?_)))))
      rw [ha_or (by omega) (by omega), Bool.or_eq_true]
      constructor
      · intro q
        rcases q with q | q
        · exact Or.inl q
        · exact Or.inr ⟨h, by rw [ed, of_decide_eq_true q], b⟩
      · intro q
        rcases q with q | q
        · exact Or.inl q
        · exact Or.inr (decide_eq_true ((nI_eq (by omega) (by omega)).mp (q.2.1.symm.trans ed)))
    · rw [← e] at r2; exact absurd (h.symm.trans r2) (by decide)
theorem yw_d69 {post : Int32 → Prop} {J46 : Int32 → Int32 → Prop} {x1 x2 : Int32} {k : Nat} (hs : pu_src V B L sz b_code stmt cnt term) (hV : V ≤ 8) (hL : L ≤ 6)
    (K : ∀ y, (∀ v, v < 8 → (pu_has y (nI v) = true ↔ (pu_has x2 (nI v) = true ∨ ∃ ρ, ρ < 112 ∧ pu_rd b_code x2 ρ v))) → J46 y (nI (k + 1))) :
    ∀ e ρ, ρ + e = 112 → ∀ x4, (∀ v, v < 8 → (pu_has x4 (nI v) = true ↔ (pu_has x2 (nI v) = true ∨ ∃ r, r < ρ ∧ pu_rd b_code x2 r v))) → ∀ n, e < n → wY_distance_69 post J46 x1 x2 (nI k) (nI V) (nI B) (nI L) (nI Q) g_cursor g_points g_dyn g_at g_place b_code b_size b_rom b_init b_marked b_pLabel b_pVal b_status b_result b_forks b_outs b_out b_val n x4 (nI (ρ * 5)) := by
  intro e
  induction e with
  | zero =>
    intro ρ hρ x4 hx n hn
    obtain ⟨m, rfl⟩ : ∃ m, n = m + 1 := ⟨n - 1, by omega⟩
    obtain rfl : ρ = 112 := by omega
    exact br_t (nI_le (a := 560) (by omega) (by omega)) (nm_r (ar_a1 k) (K x4 hx))
  | succ e ih =>
    intro ρ hρ x4 hx n hn
    obtain ⟨m, rfl⟩ : ∃ m, n = m + 1 := ⟨n - 1, by omega⟩
    have e3 : (nI (ρ * 5) + 3).toNatClampNeg = ρ * 5 + 3 := by rw [ar_a3, nI_clamp (by omega)]
    have e4 : (nI (ρ * 5) + 4).toNatClampNeg = ρ * 5 + 4 := by rw [ar_a4, nI_clamp (by omega)]
    have nxt : ∀ y, (∀ v, v < 8 → (pu_has y (nI v) = true ↔ (pu_has x4 (nI v) = true ∨ pu_rd b_code x2 ρ v))) → wY_distance_69 post J46 x1 x2 (nI k) (nI V) (nI B) (nI L) (nI Q) g_cursor g_points g_dyn g_at g_place b_code b_size b_rom b_init b_marked b_pLabel b_pVal b_status b_result b_forks b_outs b_out b_val m y (nI ((ρ + 1) * 5)) := by
      intro y hy
      refine ih (ρ + 1) (by omega) y (fun v hv => ?_) m (by omega)
      rw [hy v hv, hx v hv]
      constructor
      · rintro ((a | ⟨r, hr, a⟩) | a)
        · exact Or.inl a
        · exact Or.inr ⟨r, by omega, a⟩
        · exact Or.inr ⟨ρ, by omega, a⟩
      · rintro (a | ⟨r, hr, a⟩)
        · exact Or.inl (Or.inl a)
        · by_cases z : r = ρ
          · subst z; exact Or.inr a
          · exact Or.inl (Or.inr ⟨r, by omega, a⟩)
    refine br_f (nI_ge (b := 560) (by omega) (by omega)) (And.intro (by rw [ar_a3]; exact vp_in_nI (by omega) (by omega)) (yw_has (fun h3 => ?_) (fun h3 => ?_)))
    · rw [e3] at h3
      exact br_f (by decide) (yw_d116 (by omega) hs hV hL (Or.inr ⟨by decide, Or.inl h3⟩) nxt)
    · rw [e3] at h3
      refine br_t rfl (And.intro (by rw [ar_a4]; exact vp_in_nI (by omega) (by omega)) (yw_has (fun h4 => ?_) (fun h4 => ?_)))
      · rw [e4] at h4
        exact br_f (by decide) (yw_d116 (by omega) hs hV hL (Or.inr ⟨by decide, Or.inr h4⟩) nxt)
      · rw [e4] at h4
        exact br_t rfl (yw_d116 (by omega) hs hV hL (Or.inl ⟨rfl, fun q => by rcases q with q | q; rw [h3] at q; exact absurd q (by decide); rw [h4] at q; exact absurd q (by decide)⟩) nxt)
theorem yw_next {s y : Int32} {k : Nat} (hs : pu_src V B L sz b_code stmt cnt term) (hV : V ≤ 8) (hL : L ≤ 6)
    (h : ∀ v, v < 8 → (pu_has s (nI v) = true ↔ pu_lev V b_marked (pu_dep sz b_code) k v))
    (hy : ∀ v, v < 8 → (pu_has y (nI v) = true ↔ (pu_has s (nI v) = true ∨ ∃ ρ, ρ < 112 ∧ pu_rd b_code s ρ v))) :
    ∀ v, v < 8 → (pu_has y (nI v) = true ↔ pu_lev V b_marked (pu_dep sz b_code) (k + 1) v) := by
  intro v hv
  rw [hy v hv, h v hv]
  have hop : ∀ o, pu_op V o → pu_has s o = true → ∃ u, u < V ∧ o = nI u ∧ pu_lev V b_marked (pu_dep sz b_code) k u := by
    intro o ho hh
    rcases ho with a | ⟨u, hu, rfl⟩
    · rw [ha_neg a] at hh; exact absurd hh (by decide)
    · exact ⟨u, hu, rfl, (h u (by omega)).mp hh⟩
  constructor
  · rintro (a | ⟨ρ, hρ, r1, rv, r34⟩)
    · exact Or.inl a
    · obtain ⟨l, i, hl, hi, e⟩ := sr_row1 hs hL hρ r1
      rw [e] at r1 rv r34
      rcases sr_row hs hl hi with ⟨_, ⟨d, hd, ed⟩, _, r3, r4⟩ | ⟨r2, _⟩
      · have evd : v = d := (nI_eq (by omega) (by omega)).mp (rv.symm.trans ed)
        subst evd
        rcases r34 with q | q
        · obtain ⟨u, hu, eu, hl2⟩ := hop _ r3 q
          exact Or.inr ⟨hd, u, hu, ⟨l, i, hl, hi, r1, rv, Or.inl eu⟩, hl2⟩
        · obtain ⟨u, hu, eu, hl2⟩ := hop _ r4 q
          exact Or.inr ⟨hd, u, hu, ⟨l, i, hl, hi, r1, rv, Or.inr eu⟩, hl2⟩
      · exact absurd (r1.symm.trans r2) (by decide)
  · rintro (a | ⟨_, u, hu, ⟨l, i, hl, hi, r1, rv, r34⟩, hl2⟩)
    · exact Or.inl a
    · have hz := Nat.le_trans (sr_sz hs hl) hL
      have e : (l * 7 + i) * 5 = l * 35 + i * 5 := by omega
      refine Or.inr ⟨l * 7 + i, by omega, ?_⟩
      unfold pu_rd
      rw [e]
      have hu2 := (h u (by omega)).mpr hl2
      refine ⟨r1, rv, ?_⟩
      rcases r34 with q | q
      · exact Or.inl (by rw [q]; exact hu2)
      · exact Or.inr (by rw [q]; exact hu2)
theorem yw_d46 {post : Int32 → Prop} {x : Nat} (hs : pu_src V B L sz b_code stmt cnt term) (hV1 : 1 ≤ V) (hV : V ≤ 8) (hL : L ≤ 6) (hx : x < V)
    (K : ∀ r, pu_dist V b_marked (pu_dep sz b_code) x r → post r) :
    ∀ e k, k + e = 8 → ∀ s, (∀ v, v < 8 → (pu_has s (nI v) = true ↔ pu_lev V b_marked (pu_dep sz b_code) k v)) → (∀ j, j < k → ¬ pu_lev V b_marked (pu_dep sz b_code) j x) → ∀ n, e < n → wY_distance_46 post (nI x) (nI V) (nI B) (nI L) (nI Q) g_cursor g_points g_dyn g_at g_place b_code b_size b_rom b_init b_marked b_pLabel b_pVal b_status b_result b_forks b_outs b_out b_val n s (nI k) := by
  intro e
  induction e with
  | zero =>
    intro k hk s h hno n hn
    obtain ⟨m, rfl⟩ : ∃ m, n = m + 1 := ⟨n - 1, by omega⟩
    exact br_t (nI_le (a := 8) (by omega) (by omega)) (K _ (Or.inr ⟨fun j hj => hno (V - 1) (by omega) (le_sat hV1 j x hj), rfl⟩))
  | succ e ih =>
    intro k hk s h hno n hn
    obtain ⟨m, rfl⟩ : ∃ m, n = m + 1 := ⟨n - 1, by omega⟩
    refine br_f (nI_ge (b := 8) (by omega) (by omega)) (yw_has (fun g => ?_) (fun g => ?_))
    · exact br_f (by decide) (K _ (Or.inl ⟨k, by omega, (h x (by omega)).mp g, hno, rfl⟩))
    · have hnk : ¬ pu_lev V b_marked (pu_dep sz b_code) k x := fun z => by rw [(h x (by omega)).mpr z] at g; exact absurd g (by decide)
      refine br_t rfl (Exists.intro 113 ?_)
      exact yw_d69 hs hV hL (fun y hy => ih (k + 1) (by omega) y (yw_next hs hV hL h hy) (lt_s hno hnk) m (by omega)) 112 0 (by omega) s (fun v hv => ⟨Or.inl, fun q => q.elim id (fun ⟨r, hr, _⟩ => by omega)⟩) _ (by omega)
theorem yw_d15 {post : Int32 → Prop} {x : Nat} (hs : pu_src V B L sz b_code stmt cnt term) (hV1 : 1 ≤ V) (hV : V ≤ 8) (hL : L ≤ 6) (hx : x < V)
    (K : ∀ r, pu_dist V b_marked (pu_dep sz b_code) x r → post r) :
    ∀ e i, i + e = V → ∀ s, (∀ v, v < 8 → (pu_has s (nI v) = true ↔ (v < i ∧ b_marked v ≠ 0))) → ∀ n, e < n → wY_distance_15 post (nI x) (nI V) (nI B) (nI L) (nI Q) g_cursor g_points g_dyn g_at g_place b_code b_size b_rom b_init b_marked b_pLabel b_pVal b_status b_result b_forks b_outs b_out b_val n s (nI i) := by
  intro e
  induction e with
  | zero =>
    intro i hi s h n hn
    obtain ⟨m, rfl⟩ : ∃ m, n = m + 1 := ⟨n - 1, by omega⟩
    obtain rfl : i = V := by omega
    exact br_t (nI_le (by omega) (by omega)) ⟨9, yw_d46 hs hV1 hV hL hx K 8 0 (by omega) s h (fun j hj => by omega) _ (by omega)⟩
  | succ e ih =>
    intro i hi s h n hn
    obtain ⟨m, rfl⟩ : ∃ m, n = m + 1 := ⟨n - 1, by omega⟩
    have ic : (nI i).toNatClampNeg = i := nI_clamp (by omega)
    refine br_f (nI_ge (by omega) (by omega)) (And.intro (vp_in_nI (by omega) (by omega)) (br_c (fun hz => ?_) (fun hz => ?_)))
    · rw [ic] at hz
      refine nm_r (ar_a1 i) (ih (i + 1) (by omega) s (fun v hv => ?_) m (by omega))
      rw [h v hv]
      constructor
      · intro ⟨a, b⟩; exact ⟨by omega, b⟩
      · intro ⟨a, b⟩
        refine ⟨?_, b⟩
        by_cases q : v = i
        · subst q; exact absurd hz b
        · omega
    · rw [ic] at hz
      refine nm_e (nm_r (ar_a1 i) (ih (i + 1) (by omega) _ (fun v hv => ?_) m (by omega)))
      rw [ha_or (by omega) (by omega), Bool.or_eq_true, h v hv]
      constructor
      · rintro (⟨a, b⟩ | a)
        · exact ⟨by omega, b⟩
        · rw [of_decide_eq_true a]; exact ⟨by omega, hz⟩
      · intro ⟨a, b⟩
        by_cases q : v = i
        · exact Or.inr (decide_eq_true q)
        · exact Or.inl ⟨by omega, b⟩
theorem yw_dist {post : Int32 → Prop} {x : Nat} (hs : pu_src V B L sz b_code stmt cnt term) (hV1 : 1 ≤ V) (hV : V ≤ 8) (hL : L ≤ 6) (hx : x < V)
    (K : ∀ r, pu_dist V b_marked (pu_dep sz b_code) x r → post r) : wpY_distance post ((nI V), (nI B), (nI L), (nI Q), g_cursor, g_points, g_dyn, g_at, g_place, b_code, b_size, b_rom, b_init, b_marked, b_pLabel, b_pVal, b_status, b_result, b_forks, b_outs, b_out, b_val) (nI x) := by
  unfold wpY_distance
  exact yw_var1 hx hV (br_t rfl ⟨V + 1, yw_d15 hs hV1 hV hL hx K V 0 (by omega) 0 (fun v hv => by rw [ha_0 (by omega)]; exact ⟨fun z => absurd z (by decide), fun z => by omega⟩) _ (by omega)⟩)
theorem yw_dset {post : Int32 → Prop} (hs : pu_src V B L sz b_code stmt cnt term) (hV1 : 1 ≤ V) (hV : V ≤ 8) (hL : L ≤ 6)
    (K : ∀ s, (∀ v, v < 8 → (pu_has s (nI v) = true ↔ ∃ k, pu_lev V b_marked (pu_dep sz b_code) k v)) → post s) : wpY_dynamicSet post ((nI V), (nI B), (nI L), (nI Q), g_cursor, g_points, g_dyn, g_at, g_place, b_code, b_size, b_rom, b_init, b_marked, b_pLabel, b_pVal, b_status, b_result, b_forks, b_outs, b_out, b_val) := by
  have key : ∀ e i, i + e = V → ∀ s, (∀ v, v < 8 → (pu_has s (nI v) = true ↔ (v < i ∧ ∃ k, pu_lev V b_marked (pu_dep sz b_code) k v))) → ∀ n, e < n → wY_dynamicSet_4 post (nI V) (nI B) (nI L) (nI Q) g_cursor g_points g_dyn g_at g_place b_code b_size b_rom b_init b_marked b_pLabel b_pVal b_status b_result b_forks b_outs b_out b_val n s (nI i) := by
    intro e
    induction e with
    | zero =>
      intro i hi s h n hn
      obtain ⟨m, rfl⟩ : ∃ m, n = m + 1 := ⟨n - 1, by omega⟩
      refine br_t (nI_le (by omega) (by omega)) (K s (fun v hv => ?_))
      rw [h v hv]
      exact ⟨fun q => q.2, fun ⟨k, hk⟩ => ⟨by have := le_V _ _ hk; omega, k, hk⟩⟩
    | succ e ih =>
      intro i hi s h n hn
      obtain ⟨m, rfl⟩ : ∃ m, n = m + 1 := ⟨n - 1, by omega⟩
      refine br_f (nI_ge (by omega) (by omega)) (yw_dist hs hV1 hV hL (by omega) (fun r hr => br_c (fun hz => ?_) (fun hz => ?_)))
      · have hno : ¬ ∃ k, pu_lev V b_marked (pu_dep sz b_code) k i := fun q => ar_nle hz ((di_pos hr).mpr q)
        refine nm_r (ar_a1 i) (ih (i + 1) (by omega) s (fun v hv => ?_) m (by omega))
        rw [h v hv]
        constructor
        · intro ⟨a, b⟩; exact ⟨by omega, b⟩
        · intro ⟨a, b⟩
          refine ⟨?_, b⟩
          by_cases q : v = i
          · subst q; exact absurd b hno
          · omega
      · have hyes := (di_pos hr).mp (ar_lt hz)
        refine nm_e (nm_r (ar_a1 i) (ih (i + 1) (by omega) _ (fun v hv => ?_) m (by omega)))
        rw [ha_or (by omega) (by omega), Bool.or_eq_true, h v hv]
        constructor
        · rintro (⟨a, b⟩ | a)
          · exact ⟨by omega, b⟩
          · rw [of_decide_eq_true a]; exact ⟨by omega, hyes⟩
        · intro ⟨a, b⟩
          by_cases q : v = i
          · exact Or.inr (decide_eq_true q)
          · exact Or.inl ⟨by omega, b⟩
  exact ⟨V + 1, key V 0 (by omega) 0 (fun v hv => by rw [ha_0 (by omega)]; exact ⟨fun z => absurd z (by decide), fun z => by omega⟩) _ (by omega)⟩
end
end
section
/-! points -/
def pu_dyo (D : Nat → Bool) (o : Int32) : Bool := decide (0 ≤ o) && D o.toNatClampNeg
def pu_kd (cd : Nat → Int32) (sz : Nat → Nat) (D : Nat → Bool) (l : Nat) : Int32 :=
  if cd (l * 35 + sz l * 5) = 4 ∧ pu_dyo D (cd (l * 35 + sz l * 5 + 1)) = false then 3 else cd (l * 35 + sz l * 5)
def pu_tl (cd : Nat → Int32) (sz : Nat → Nat) (D : Nat → Bool) (l : Nat) (st : Nat → Int32) (s : Bool) : Int32 :=
  if pu_kd cd sz D l = 4 then (if s = true then cd (l * 35 + sz l * 5 + 3) else cd (l * 35 + sz l * 5 + 2))
  else if pu_kd cd sz D l = 3 ∧ s = false then
    (if cd (l * 35 + sz l * 5) = 3 then cd (l * 35 + sz l * 5 + 1) else if pu_ov st (cd (l * 35 + sz l * 5 + 1)) = 0 then cd (l * 35 + sz l * 5 + 3) else cd (l * 35 + sz l * 5 + 2))
  else -1
/-- the store at a point -/
def pu_s0 (pv : Nat → Int32) (p : Nat) : Nat → Int32 := fun v => if v < 8 then pv (p * 8 + v) else 0
theorem s0_at {pv : Nat → Int32} {p v : Nat} (h : v < 8) : pu_s0 pv p v = pv (p * 8 + v) := if_pos h
theorem s0_ext {pv pv' : Nat → Int32} {p : Nat} (h : ∀ v, v < 8 → pv' (p * 8 + v) = pv (p * 8 + v)) : pu_s0 pv' p = pu_s0 pv p := by
  funext v
  unfold pu_s0
  by_cases z : v < 8
  · rw [if_pos z, if_pos z, h v z]
  · rw [if_neg z, if_neg z]
/-- the store behind the block at a point -/
def pu_sb (cd rom : Nat → Int32) (sz : Nat → Nat) (D : Nat → Bool) (pl pv : Nat → Int32) (p : Nat) : Nat → Int32 :=
  pu_sn cd rom D (pl p).toNatClampNeg (pu_s0 pv p) (sz (pl p).toNatClampNeg)
/-- point q is that of label and store -/
def pu_mt (V : Nat) (pl pv : Nat → Int32) (q : Nat) (lab : Int32) (st : Nat → Int32) : Prop := pl q = lab ∧ ∀ v, v < V → pv (q * 8 + v) = st v
/-- r is the successor (number) of point p -/
def pu_sc (V n : Nat) (cd rom : Nat → Int32) (sz : Nat → Nat) (D : Nat → Bool) (pl pv : Nat → Int32) (p : Nat) (s : Bool) (r : Int32) : Prop :=
  (pu_tl cd sz D (pl p).toNatClampNeg (pu_sb cd rom sz D pl pv p) s < 0 ∧ r = -1) ∨
  (∃ q, q < n ∧ r = nI q ∧ pu_mt V pl pv q (pu_tl cd sz D (pl p).toNatClampNeg (pu_sb cd rom sz D pl pv p) s) (pu_sb cd rom sz D pl pv p))
/-- a set of points: labels, zeros above the variables, all different -/
def pu_pt (V B n : Nat) (D : Nat → Bool) (pl pv : Nat → Int32) : Prop :=
  (∀ p, p < n → ∃ l, l < B ∧ pl p = nI l) ∧ (∀ p v, p < n → v < 8 → (V ≤ v ∨ D v = true) → pv (p * 8 + v) = 0) ∧
  (∀ p q, p < n → q < n → pl p = pl q → (∀ v, v < V → pv (p * 8 + v) = pv (q * 8 + v)) → p = q)
theorem sn_ext {V N : Nat} {cd rom : Nat → Int32} {D : Nat → Bool} {l : Nat} {st st' : Nat → Int32} (hV : V ≤ N) (hV8 : V ≤ 8) (h : ∀ v, v < N → st v = st' v) :
    ∀ i, (∀ j, j < i → pu_row V cd (l * 35 + j * 5)) → ∀ v, v < N → pu_sn cd rom D l st i v = pu_sn cd rom D l st' i v := by
  intro i
  induction i with
  | zero => intro _ v hv; exact h v hv
  | succ i ih =>
    intro hr v hv
    have ih := ih (fun j hj => hr j (by omega))
    show pu_s1 cd rom D (l * 35 + i * 5) (pu_sn cd rom D l st i) v = pu_s1 cd rom D (l * 35 + i * 5) (pu_sn cd rom D l st' i) v
    unfold pu_s1
    by_cases hc : cd (l * 35 + i * 5) = 1 ∧ D (cd (l * 35 + i * 5 + 1)).toNatClampNeg = false
    · rw [if_pos hc, if_pos hc]
      rcases hr i (by omega) with ⟨_, _, _, r3, r4⟩ | ⟨r2, _⟩
      · rw [ov_ext (st' := pu_sn cd rom D l st' i) hV8 r3 (fun v hv => ih v (by omega)), ov_ext (st' := pu_sn cd rom D l st' i) hV8 r4 (fun v hv => ih v (by omega))]
        by_cases z : v = (cd (l * 35 + i * 5 + 1)).toNatClampNeg
        · rw [z, pk_us, pk_us]
        · rw [pk_un z, pk_un z, ih v hv]
      · exact absurd (hc.1.symm.trans r2) (by decide)
    · rw [if_neg hc, if_neg hc, ih v hv]
theorem kd_cases {V B L : Nat} {sz : Nat → Nat} {cd stmt cnt term : Nat → Int32} {D : Nat → Bool} (hs : pu_src V B L sz cd stmt cnt term) {l : Nat} (hl : l < 16) :
    (pu_kd cd sz D l = 0 ∧ cd (l * 35 + sz l * 5) = 0) ∨ (pu_kd cd sz D l = 3 ∧ cd (l * 35 + sz l * 5) = 3 ∧ ∃ k, k < B ∧ cd (l * 35 + sz l * 5 + 1) = nI k) ∨
    (pu_kd cd sz D l = 3 ∧ cd (l * 35 + sz l * 5) = 4 ∧ pu_op V (cd (l * 35 + sz l * 5 + 1)) ∧ pu_dyo D (cd (l * 35 + sz l * 5 + 1)) = false ∧ (∃ k, k < B ∧ cd (l * 35 + sz l * 5 + 2) = nI k) ∧ ∃ k, k < B ∧ cd (l * 35 + sz l * 5 + 3) = nI k) ∨
    (pu_kd cd sz D l = 4 ∧ cd (l * 35 + sz l * 5) = 4 ∧ pu_op V (cd (l * 35 + sz l * 5 + 1)) ∧ pu_dyo D (cd (l * 35 + sz l * 5 + 1)) = true ∧ (∃ k, k < B ∧ cd (l * 35 + sz l * 5 + 2) = nI k) ∧ ∃ k, k < B ∧ cd (l * 35 + sz l * 5 + 3) = nI k) ∨
    (pu_kd cd sz D l = 5 ∧ cd (l * 35 + sz l * 5) = 5 ∧ pu_op V (cd (l * 35 + sz l * 5 + 1))) := by
  unfold pu_kd
  rcases sr_ter hs hl with t | ⟨t, t1⟩ | ⟨t, t1, t2, t3⟩ | ⟨t, t1⟩
  · have := t 0 (by omega)
    rw [Nat.add_zero] at this
    exact Or.inl ⟨by rw [this, if_neg (fun z => absurd z.1 (by decide))], this⟩
  · exact Or.inr (Or.inl ⟨by rw [t, if_neg (fun z => absurd z.1 (by decide))], t, t1⟩)
  · by_cases z : pu_dyo D (cd (l * 35 + sz l * 5 + 1)) = false
    · exact Or.inr (Or.inr (Or.inl ⟨by rw [if_pos ⟨t, z⟩], t, t1, z, t2, t3⟩))
    · exact Or.inr (Or.inr (Or.inr (Or.inl ⟨by rw [if_neg (fun q => z q.2), t], t, t1, by rw [← Bool.not_eq_false]; exact z, t2, t3⟩)))
  · exact Or.inr (Or.inr (Or.inr (Or.inr ⟨by rw [t, if_neg (fun z => absurd z.1 (by decide))], t, t1⟩)))
/-- a target is none or a label -/
theorem tl_lab {V B L : Nat} {sz : Nat → Nat} {cd stmt cnt term : Nat → Int32} {D : Nat → Bool} (hs : pu_src V B L sz cd stmt cnt term) {l : Nat} (hl : l < 16) (st : Nat → Int32) (s : Bool) :
    pu_tl cd sz D l st s = -1 ∨ ∃ k, k < B ∧ pu_tl cd sz D l st s = nI k := by
  unfold pu_tl
  rcases kd_cases (D := D) hs hl with ⟨k, _⟩ | ⟨k, t, t1⟩ | ⟨k, t, _, _, t2, t3⟩ | ⟨k, t, _, _, t2, t3⟩ | ⟨k, t, _⟩
  · rw [k, if_neg (by decide), if_neg (fun z => absurd z.1 (by decide))]; exact Or.inl rfl
  · rw [k, if_neg (by decide)]
    cases s
    · rw [if_pos ⟨rfl, rfl⟩, if_pos t]; exact Or.inr t1
    · rw [if_neg (fun z => absurd z.2 (by decide))]; exact Or.inl rfl
  · rw [k, if_neg (by decide)]
    cases s
    · rw [if_pos ⟨rfl, rfl⟩, if_neg (by rw [t]; decide)]
      by_cases z : pu_ov st (cd (l * 35 + sz l * 5 + 1)) = 0
      · rw [if_pos z]; exact Or.inr t3
      · rw [if_neg z]; exact Or.inr t2
    · rw [if_neg (fun z => absurd z.2 (by decide))]; exact Or.inl rfl
  · rw [k, if_pos rfl]
    cases s
    · rw [if_neg (by decide)]; exact Or.inr t2
    · rw [if_pos rfl]; exact Or.inr t3
  · rw [k, if_neg (by decide), if_neg (fun z => absurd z.1 (by decide))]; exact Or.inl rfl
theorem tl_jump {V B L : Nat} {sz : Nat → Nat} {cd stmt cnt term : Nat → Int32} {D : Nat → Bool} (hs : pu_src V B L sz cd stmt cnt term) {l : Nat} (hl : l < 16) (hB : B ≤ 16) {st : Nat → Int32}
    (hk : pu_kd cd sz D l = 3) : ¬ pu_tl cd sz D l st false < 0 := by
  unfold pu_tl
  rw [hk, if_neg (by decide), if_pos ⟨rfl, rfl⟩]
  rcases kd_cases (D := D) hs hl with ⟨k, _⟩ | ⟨k, t, ⟨a, ha, t1⟩⟩ | ⟨k, t, _, _, ⟨a, ha, t2⟩, ⟨b, hb, t3⟩⟩ | ⟨k, t, _⟩ | ⟨k, t, _⟩
  · exact absurd (k.symm.trans hk) (by decide)
  · rw [if_pos t, t1]; exact nI_pos (by omega)
  · rw [if_neg (by rw [t]; decide), t2, t3]
    split
    · exact nI_pos (by omega)
    · exact nI_pos (by omega)
  · exact absurd (k.symm.trans hk) (by decide)
  · exact absurd (k.symm.trans hk) (by decide)
theorem tl_fork {V B L : Nat} {sz : Nat → Nat} {cd stmt cnt term : Nat → Int32} {D : Nat → Bool} (hs : pu_src V B L sz cd stmt cnt term) {l : Nat} (hl : l < 16) (hB : B ≤ 16) {st : Nat → Int32} (s : Bool)
    (hk : pu_kd cd sz D l = 4) : ¬ pu_tl cd sz D l st s < 0 := by
  unfold pu_tl
  rw [hk, if_pos rfl]
  rcases kd_cases (D := D) hs hl with ⟨k, _⟩ | ⟨k, _⟩ | ⟨k, _⟩ | ⟨k, t, _, _, ⟨a, ha, t2⟩, ⟨b, hb, t3⟩⟩ | ⟨k, t, _⟩
  · exact absurd (k.symm.trans hk) (by decide)
  · exact absurd (k.symm.trans hk) (by decide)
  · exact absurd (k.symm.trans hk) (by decide)
  · rw [t2, t3]
    split
    · exact nI_pos (by omega)
    · exact nI_pos (by omega)
  · exact absurd (k.symm.trans hk) (by decide)
/-- the number found is the successor's -/
theorem sc_uniq {V B n : Nat} {cd rom : Nat → Int32} {sz : Nat → Nat} {D : Nat → Bool} {pl pv : Nat → Int32} {p : Nat} {s : Bool} {r : Int32} {q : Nat} (hn : n ≤ 32) (hp : pu_pt V B n D pl pv)
    (h : pu_sc V n cd rom sz D pl pv p s r) (hq : q < n) (h0 : ¬ pu_tl cd sz D (pl p).toNatClampNeg (pu_sb cd rom sz D pl pv p) s < 0)
    (hm : pu_mt V pl pv q (pu_tl cd sz D (pl p).toNatClampNeg (pu_sb cd rom sz D pl pv p) s) (pu_sb cd rom sz D pl pv p)) : r = nI q := by
  rcases h with h | ⟨q', hq', e, hm'⟩
  · exact absurd h.1 h0
  · rw [e, hp.2.2 q' q hq' hq (hm'.1.trans hm.1.symm) (fun v hv => (hm'.2 v hv).trans (hm.2 v hv).symm)]
theorem sb_same {cd rom : Nat → Int32} {sz : Nat → Nat} {D : Nat → Bool} {pl pv pl' pv' : Nat → Int32} {p : Nat} (h1 : pl' p = pl p) (h2 : ∀ v, v < 8 → pv' (p * 8 + v) = pv (p * 8 + v)) : pu_sb cd rom sz D pl' pv' p = pu_sb cd rom sz D pl pv p := by
  unfold pu_sb
  rw [h1, s0_ext h2]
theorem sc_mono {V n n' : Nat} {cd rom : Nat → Int32} {sz : Nat → Nat} {D : Nat → Bool} {pl pv pl' pv' : Nat → Int32} {p : Nat} {s : Bool} {r : Int32} (hV : V ≤ 8) (hn : n ≤ n') (hp : p < n)
    (h1 : ∀ q, q < n → pl' q = pl q) (h2 : ∀ q v, q < n → v < 8 → pv' (q * 8 + v) = pv (q * 8 + v)) (h : pu_sc V n cd rom sz D pl pv p s r) : pu_sc V n' cd rom sz D pl' pv' p s r := by
  unfold pu_sc at *
  rw [sb_same (h1 p hp) (fun v hv => h2 p v hp hv), h1 p hp]
  rcases h with h | ⟨q, hq, e, m1, m2⟩
  · exact Or.inl h
  · exact Or.inr ⟨q, by omega, e, (h1 q hq).trans m1, fun v hv => (h2 q v hq (by omega)).trans (m2 v hv)⟩
/-- N cells from k on are those of f -/
def pu_gl (a : Nat → Int32) (k N : Nat) (f : Nat → Int32) : Nat → Int32 := fun j => if k ≤ j ∧ j < k + N then f (j - k) else a j
theorem gl_in {a : Nat → Int32} {k N : Nat} {f : Nat → Int32} {v : Nat} (h : v < N) : pu_gl a k N f (k + v) = f v := by
  unfold pu_gl; rw [if_pos (by omega)]; congr 1; omega
theorem gl_out {a : Nat → Int32} {k N : Nat} {f : Nat → Int32} {j : Nat} (h : j < k ∨ k + N ≤ j) : pu_gl a k N f j = a j := if_neg (by omega)
theorem gl_eq {a w : Nat → Int32} {k N : Nat} {f : Nat → Int32} (h1 : ∀ v, v < N → w (k + v) = f v) (h2 : ∀ j, (j < k ∨ k + N ≤ j) → w j = a j) : w = pu_gl a k N f := by
  funext j
  by_cases z : k ≤ j ∧ j < k + N
  · obtain ⟨v, rfl⟩ : ∃ v, j = k + v := ⟨j - k, by omega⟩
    rw [gl_in (by omega), h1 v (by omega)]
  · rw [gl_out (by omega), h2 j (by omega)]
end
section
section
variable {V B L Q n : Nat} {g_cursor g_points g_dyn g_at g_place : Int32} {b_code b_size b_rom b_init b_marked b_pLabel b_pVal b_status b_result b_forks b_outs b_out b_val : Nat → Int32} {sz : Nat → Nat} {stmt cnt term : Nat → Int32} {D : Nat → Bool}
/-! execute: the scratch store -/
theorem yw_skip2 {post : SY → Prop} {J2 : Int32 → (Nat → Int32) → (Nat → Int32) → (Nat → Int32) → (Nat → Int32) → (Nat → Int32) → (Nat → Int32) → (Nat → Int32) → (Nat → Int32) → (Nat → Int32) → (Nat → Int32) → (Nat → Int32) → (Nat → Int32) → (Nat → Int32) → Prop} {x2 : Int32} {i r : Nat} (hr : r < 560) (K : J2 (nI (i + 1)) b_code b_size b_rom b_init b_marked b_pLabel b_pVal b_status b_result b_forks b_outs b_out b_val) : wY_execute_123 post J2 (nI 2) x2 (nI i) (nI r) (nI V) (nI B) (nI L) (nI Q) g_cursor g_points g_dyn g_at g_place b_code b_size b_rom b_init b_marked b_pLabel b_pVal b_status b_result b_forks b_outs b_out b_val := by
  refine And.intro (vp_in_nI hr (by omega)) (br_c (fun h => br_t (Int32.le_refl _) (nm_r (ar_a1 i) K)) (fun h => nm_r (ar_a1 i) K))
theorem yw_e62 {post : SY → Prop} {J2 : Int32 → (Nat → Int32) → (Nat → Int32) → (Nat → Int32) → (Nat → Int32) → (Nat → Int32) → (Nat → Int32) → (Nat → Int32) → (Nat → Int32) → (Nat → Int32) → (Nat → Int32) → (Nat → Int32) → (Nat → Int32) → (Nat → Int32) → Prop} {x2 x3 : Int32} {m r d : Nat} (hm : m ≤ 2) (hV : V ≤ 8) (hr : r + 4 < 560) (hd : d < V) (h3 : pu_op V (b_code (r + 3))) (h4 : pu_op V (b_code (r + 4)))
    (K : wY_execute_123 post J2 (nI m) x2 x3 (nI r) (nI V) (nI B) (nI L) (nI Q) g_cursor g_points g_dyn g_at g_place b_code b_size b_rom b_init b_marked b_pLabel b_pVal b_status b_result b_forks b_outs b_out (upd b_val (m * 8 + d) (pu_ap b_rom (b_code (r + 2)) (pu_ov (fun v => b_val (m * 8 + v)) (b_code (r + 3))) (pu_ov (fun v => b_val (m * 8 + v)) (b_code (r + 4)))))) :
    wY_execute_62 post J2 (nI m) x2 x3 (nI r) (nI d) (nI V) (nI B) (nI L) (nI Q) g_cursor g_points g_dyn g_at g_place b_code b_size b_rom b_init b_marked b_pLabel b_pVal b_status b_result b_forks b_outs b_out b_val := by
  have e2 : (nI r + 2).toNatClampNeg = r + 2 := by rw [ar_a2, nI_clamp (by omega)]
  have e3 : (nI r + 3).toNatClampNeg = r + 3 := by rw [ar_a3, nI_clamp (by omega)]
  have e4 : (nI r + 4).toNatClampNeg = r + 4 := by rw [ar_a4, nI_clamp (by omega)]
  refine And.intro (by rw [ar_a3]; exact vp_in_nI (by omega) (by omega)) (yw_value (congrArg b_code e3) hV hm h3 ?_)
  refine And.intro (by rw [ar_a4]; exact vp_in_nI (by omega) (by omega)) (yw_value (congrArg b_code e4) hV hm h4 ?_)
  refine And.intro (by rw [ar_a2]; exact vp_in_nI (by omega) (by omega)) (yw_apply ?_)
  refine And.intro (by rw [ar_m8]; exact vp_in_nI (by omega) (by omega)) (nm_r (e' := upd b_val (m * 8 + d) (pu_ap b_rom (b_code (r + 2)) (pu_ov (fun v => b_val (m * 8 + v)) (b_code (r + 3))) (pu_ov (fun v => b_val (m * 8 + v)) (b_code (r + 4))))) ?_ K)
  rw [ar_m8, nI_clamp (by omega), e2]
theorem yw_exec2 {post : SY → Prop} {l : Nat} (hs : pu_src V B L sz b_code stmt cnt term) (hbs : b_size = cnt) (hV : V ≤ 8) (hL : L ≤ 6) (hl : l < 16) (hD : ∀ v, v < V → pu_has g_dyn (nI v) = D v)
    (K : ∀ w : Nat → Int32, (fun v => w (16 + v)) = pu_sn b_code b_rom D l (fun v => b_val (16 + v)) (sz l) → (∀ j, j < 16 → w j = b_val j) → post ((nI V), (nI B), (nI L), (nI Q), g_cursor, g_points, g_dyn, g_at, g_place, b_code, b_size, b_rom, b_init, b_marked, b_pLabel, b_pVal, b_status, b_result, b_forks, b_outs, b_out, w)) : wpY_execute post ((nI V), (nI B), (nI L), (nI Q), g_cursor, g_points, g_dyn, g_at, g_place, b_code, b_size, b_rom, b_init, b_marked, b_pLabel, b_pVal, b_status, b_result, b_forks, b_outs, b_out, b_val) (nI 2) (nI l) := by
  have hz := Nat.le_trans (sr_sz hs hl) hL
  have ecl : b_size (nI l).toNatClampNeg = nI (sz l) := by rw [nI_clamp (by omega), hbs, sr_cnt hs hl]
  have il : vp_in (nI l) 16 := vp_in_nI hl (by omega)
  have key : ∀ e i, i + e = sz l → ∀ w : Nat → Int32, (fun v => w (16 + v)) = pu_sn b_code b_rom D l (fun v => b_val (16 + v)) i → (∀ j, j < 16 → w j = b_val j) → ∀ n, e < n → wY_execute_2 post (nI 2) (nI l) (nI V) (nI B) (nI L) (nI Q) g_cursor g_points g_dyn g_at g_place n (nI i) b_code b_size b_rom b_init b_marked b_pLabel b_pVal b_status b_result b_forks b_outs b_out w := by
    intro e
    induction e with
    | zero =>
      intro i hi w hw hw2 n hn
      obtain ⟨m, rfl⟩ : ∃ m, n = m + 1 := ⟨n - 1, by omega⟩
      obtain rfl : i = sz l := by omega
      exact And.intro il (br_t (by rw [ecl]; exact nI_le (by omega) (by omega)) (K w hw hw2))
    | succ e ih =>
      intro i hi w hw hw2 n hn
      obtain ⟨m, rfl⟩ : ∃ m, n = m + 1 := ⟨n - 1, by omega⟩
      refine And.intro il (br_f (by rw [ecl]; exact nI_ge (by omega) (by omega)) (nm_r (ar_cd l i) ?_))
      generalize hk : l * 35 + i * 5 = r
      have ec : (nI r).toNatClampNeg = r := nI_clamp (by omega)
      have ec1 : (nI r + 1).toNatClampNeg = r + 1 := by rw [ar_a1, nI_clamp (by omega)]
      have hrow := sr_row hs hl (show i < sz l by omega)
      rw [hk] at hrow
      have nxt : ∀ w' : Nat → Int32, (fun v => w' (16 + v)) = pu_s1 b_code b_rom D r (fun v => w (16 + v)) → (∀ j, j < 16 → w' j = b_val j) → wY_execute_2 post (nI 2) (nI l) (nI V) (nI B) (nI L) (nI Q) g_cursor g_points g_dyn g_at g_place m (nI (i + 1)) b_code b_size b_rom b_init b_marked b_pLabel b_pVal b_status b_result b_forks b_outs b_out w' := by
        intro w' h1 h2
        refine ih (i + 1) (by omega) w' ?_ h2 m (by omega)
        show _ = pu_s1 b_code b_rom D (l * 35 + i * 5) (pu_sn b_code b_rom D l (fun v => b_val (16 + v)) i)
        rw [hk, ← hw]; exact h1
      refine And.intro (by rw [ar_a1]; exact vp_in_nI (by omega) (by omega)) ?_
      rcases hrow with ⟨r1, ⟨d, hd, ed⟩, _, r3, r4⟩ | ⟨r2, _⟩
      · refine nm_r (e' := nI d) (by rw [ec1, ed]) (And.intro (vp_in_nI (by omega) (by omega)) (br_t (by rw [ec]; exact r1) (br_f (Int32.lt_irrefl) (yw_has (fun g => ?_) (fun g => ?_)))))
        · refine br_f (by decide) (yw_skip2 (by omega) (nxt w ?_ hw2))
          unfold pu_s1
          rw [if_neg]
          rw [ed, nI_clamp (by omega), ← hD d hd, g]
          exact fun z => absurd z.2 (by decide)
        · refine br_t rfl (yw_e62 (m := 2) (by omega) hV (by omega) hd r3 r4 (yw_skip2 (by omega) (nxt _ ?_ ?_)))
          · unfold pu_s1
            rw [if_pos ⟨r1, by rw [ed, nI_clamp (by omega), ← hD d hd]; exact g⟩]
            funext v
            rw [ed, nI_clamp (by omega)]
            show upd w (2 * 8 + d) _ (16 + v) = upd (fun v => w (16 + v)) d _ v
            by_cases z : v = d
            · subst z; rw [pk_us, pk_us]
            · rw [pk_un z, pk_un (by omega)]
          · intro j hj
            rw [pk_un (by omega)]; exact hw2 j hj
      · refine nm_e (And.intro (vp_in_nI (by omega) (by omega)) (br_f (by rw [ec, r2]; decide) (yw_skip2 (by omega) (nxt w ?_ hw2))))
        unfold pu_s1
        rw [if_neg (fun z => absurd (r2.symm.trans z.1) (by decide))]
  exact ⟨sz l + 1, key (sz l) 0 (by omega) b_val rfl (fun _ _ => rfl) _ (by omega)⟩
/-! execute: a machine -/
theorem yw_execm {post : SY → Prop} {l m : Nat} (hs : pu_src V B L sz b_code stmt cnt term) (hbs : b_size = cnt) (hV : V ≤ 8) (hL : L ≤ 6) (hl : l < 16) (hm : m < 2) (hoc : pu_oc (b_outs m))
    (K : ∀ w os ou : Nat → Int32, ((fun v => w (m * 8 + v)), os m, ou) = pu_en b_code b_rom m l ((fun v => b_val (m * 8 + v)), b_outs m, b_out) (sz l) → (∀ j, (j < m * 8 ∨ m * 8 + 8 ≤ j) → w j = b_val j) → (∀ j, j ≠ m → os j = b_outs j) →
      post ((nI V), (nI B), (nI L), (nI Q), g_cursor, g_points, g_dyn, g_at, g_place, b_code, b_size, b_rom, b_init, b_marked, b_pLabel, b_pVal, b_status, b_result, b_forks, os, ou, w)) : wpY_execute post ((nI V), (nI B), (nI L), (nI Q), g_cursor, g_points, g_dyn, g_at, g_place, b_code, b_size, b_rom, b_init, b_marked, b_pLabel, b_pVal, b_status, b_result, b_forks, b_outs, b_out, b_val) (nI m) (nI l) := by
  have hz := Nat.le_trans (sr_sz hs hl) hL
  have ecl : b_size (nI l).toNatClampNeg = nI (sz l) := by rw [nI_clamp (by omega), hbs, sr_cnt hs hl]
  have ecm : (nI m).toNatClampNeg = m := nI_clamp (by omega)
  have il : vp_in (nI l) 16 := vp_in_nI hl (by omega)
  have im : vp_in (nI m) 2 := vp_in_nI hm (by omega)
  have hm2 : ¬ (2 : Int32) ≤ nI m := nI_ge (b := 2) (by omega) (by omega)
  have key : ∀ e i, i + e = sz l → ∀ w os ou : Nat → Int32, ((fun v => w (m * 8 + v)), os m, ou) = pu_en b_code b_rom m l ((fun v => b_val (m * 8 + v)), b_outs m, b_out) i → (∀ j, (j < m * 8 ∨ m * 8 + 8 ≤ j) → w j = b_val j) → (∀ j, j ≠ m → os j = b_outs j) →
      ∀ n, e < n → wY_execute_2 post (nI m) (nI l) (nI V) (nI B) (nI L) (nI Q) g_cursor g_points g_dyn g_at g_place n (nI i) b_code b_size b_rom b_init b_marked b_pLabel b_pVal b_status b_result b_forks os ou w := by
    intro e
    induction e with
    | zero =>
      intro i hi w os ou hw hw2 hos n hn
      obtain ⟨m, rfl⟩ : ∃ m, n = m + 1 := ⟨n - 1, by omega⟩
      obtain rfl : i = sz l := by omega
      exact And.intro il (br_t (by rw [ecl]; exact nI_le (by omega) (by omega)) (K w os ou hw hw2 hos))
    | succ e ih =>
      intro i hi w os ou hw hw2 hos n hn
      obtain ⟨k, rfl⟩ : ∃ k, n = k + 1 := ⟨n - 1, by omega⟩
      have hok : pu_oc (os m) := by
        have := oc_en (cd := b_code) (rom := b_rom) (m := m) (l := l) (w := ((fun v => b_val (m * 8 + v)), b_outs m, b_out)) hoc i
        rw [← hw] at this; exact this
      refine And.intro il (br_f (by rw [ecl]; exact nI_ge (by omega) (by omega)) (nm_r (ar_cd l i) ?_))
      generalize hk : l * 35 + i * 5 = r
      have ec : (nI r).toNatClampNeg = r := nI_clamp (by omega)
      have ec1 : (nI r + 1).toNatClampNeg = r + 1 := by rw [ar_a1, nI_clamp (by omega)]
      have i1 : vp_in (nI r + 1) 560 := by rw [ar_a1]; exact vp_in_nI (by omega) (by omega)
      have hrow := sr_row hs hl (show i < sz l by omega)
      rw [hk] at hrow
      have nxt : ∀ w' os' ou' : Nat → Int32, ((fun v => w' (m * 8 + v)), os' m, ou') = pu_e1 b_code b_rom m r ((fun v => w (m * 8 + v)), os m, ou) → (∀ j, (j < m * 8 ∨ m * 8 + 8 ≤ j) → w' j = b_val j) → (∀ j, j ≠ m → os' j = b_outs j) →
          wY_execute_2 post (nI m) (nI l) (nI V) (nI B) (nI L) (nI Q) g_cursor g_points g_dyn g_at g_place k (nI (i + 1)) b_code b_size b_rom b_init b_marked b_pLabel b_pVal b_status b_result b_forks os' ou' w' := by
        intro w' os' ou' h1 h2 h3
        refine ih (i + 1) (by omega) w' os' ou' ?_ h2 h3 k (by omega)
        show _ = pu_e1 b_code b_rom m (l * 35 + i * 5) (pu_en b_code b_rom m l ((fun v => b_val (m * 8 + v)), b_outs m, b_out) i)
        rw [hk, ← hw]; exact h1
      refine And.intro i1 ?_
      rcases hrow with ⟨r1, ⟨d, hd, ed⟩, _, r3, r4⟩ | ⟨r2, ro⟩
      · refine nm_r (e' := nI d) (by rw [ec1, ed]) (And.intro (vp_in_nI (by omega) (by omega)) (br_t (by rw [ec]; exact r1) (br_t (nI_lt (b := 2) hm (by omega)) (yw_e62 (by omega) hV (by omega) hd r3 r4 (And.intro (vp_in_nI (by omega) (by omega)) (br_f (by rw [ec, r1]; decide) (nm_r (ar_a1 i) (nxt _ os ou ?_ ?_ hos))))))))
        · unfold pu_e1
          rw [if_pos r1]
          dsimp only
          rw [ed, nI_clamp (by omega)]
          congr 1
          funext v
          by_cases z : v = d
          · subst z; rw [pk_us, pk_us]
          · rw [pk_un z, pk_un (by omega)]
        · intro j hj
          rw [pk_un (by omega)]; exact hw2 j hj
      · refine nm_e (And.intro (vp_in_nI (by omega) (by omega)) (br_f (by rw [ec, r2]; decide) (And.intro (vp_in_nI (by omega) (by omega)) (br_t (by rw [ec]; exact r2) (br_f hm2 (And.intro im ?_))))))
        have e1 : pu_e1 b_code b_rom m r ((fun v => w (m * 8 + v)), os m, ou) = ((fun v => w (m * 8 + v)), (if 1000000 ≤ os m then os m else os m + 1), (if 32 ≤ os m then ou else upd ou (m * 32 + (os m).toNatClampNeg) (pu_ov (fun v => w (m * 8 + v)) (b_code (r + 1))))) := by
          unfold pu_e1; rw [if_neg (by rw [r2]; decide)]
        have fin : ∀ ou' : Nat → Int32, ou' = (if 32 ≤ os m then ou else upd ou (m * 32 + (os m).toNatClampNeg) (pu_ov (fun v => w (m * 8 + v)) (b_code (r + 1)))) →
            wY_execute_180 post (wY_execute_2 post (nI m) (nI l) (nI V) (nI B) (nI L) (nI Q) g_cursor g_points g_dyn g_at g_place k) (nI m) (nI l) (nI i) (nI V) (nI B) (nI L) (nI Q) g_cursor g_points g_dyn g_at g_place b_code b_size b_rom b_init b_marked b_pLabel b_pVal b_status b_result b_forks os ou' w := by
          intro ou' ho
          refine And.intro im (br_c (fun g => ?_) (fun g => ?_))
          · rw [ecm] at g
            refine nm_r (ar_a1 i) (nxt w os ou' ?_ hw2 hos)
            rw [e1, if_pos g, ← ho]
          · rw [ecm] at g
            refine And.intro im (And.intro im (nm_r (e' := upd os m (os m + 1)) (by rw [ecm]) (nm_r (ar_a1 i) (nxt w _ ou' ?_ hw2 ?_))))
            · rw [e1, if_neg g, ← ho, pk_us]
            · intro j hj; rw [pk_un hj]; exact hos j hj
        refine br_c (fun g => ?_) (fun g => ?_)
        · rw [ecm] at g
          exact fin ou (by rw [if_pos g])
        · rw [ecm] at g
          refine And.intro im (And.intro i1 (yw_value (congrArg b_code ec1) hV (by omega) ro ?_))
          obtain ⟨c, hc, e⟩ := hok
          have hc32 : c < 32 := by
            apply Classical.byContradiction
            intro z
            exact g (by rw [e]; exact nI_le (a := 32) (by omega) (by omega))
          refine And.intro ?_ (nm_e (fin _ ?_))
          · rw [ecm, e, ar_m32]; exact vp_in_nI (by omega) (by omega)
          · rw [if_neg g, ecm, e, ar_m32, nI_clamp (by omega), nI_clamp (by omega)]
  exact ⟨sz l + 1, key (sz l) 0 (by omega) b_val b_outs b_out rfl (fun _ _ => rfl) (fun _ _ => rfl) _ (by omega)⟩
/-! kind, target -/
theorem dyo_has {o : Int32} (ho : pu_op V o) (hV : V ≤ 8) (hD : ∀ v, v < V → pu_has g_dyn (nI v) = D v) : pu_has g_dyn o = pu_dyo D o := by
  unfold pu_dyo
  rcases ho with a | ⟨j, hj, rfl⟩
  · rw [ha_neg a, decide_eq_false (ar_nle a), Bool.false_and]
  · rw [hD j hj, decide_eq_true (nI_pos' (by omega)), Bool.true_and, nI_clamp (by omega)]
theorem yw_kind {post : Int32 → Prop} {l p : Nat} (hs : pu_src V B L sz b_code stmt cnt term) (hbs : b_size = cnt) (hV : V ≤ 8) (hL : L ≤ 6) (hl : l < 16) (hp : p < 32) (hpl : b_pLabel p = nI l) (hD : ∀ v, v < V → pu_has g_dyn (nI v) = D v)
    (K : post (pu_kd b_code sz D l)) : wpY_kind post ((nI V), (nI B), (nI L), (nI Q), g_cursor, g_points, g_dyn, g_at, g_place, b_code, b_size, b_rom, b_init, b_marked, b_pLabel, b_pVal, b_status, b_result, b_forks, b_outs, b_out, b_val) (nI p) := by
  have hz := Nat.le_trans (sr_sz hs hl) hL
  have ip : vp_in (nI p) 32 := vp_in_nI hp (by omega)
  have ecp : b_pLabel (nI p).toNatClampNeg = nI l := by rw [nI_clamp (by omega), hpl]
  have ecl : b_size (nI l).toNatClampNeg = nI (sz l) := by rw [nI_clamp (by omega), hbs, sr_cnt hs hl]
  refine And.intro ip (And.intro ip (And.intro (by rw [ecp]; exact vp_in_nI hl (by omega)) (nm_r (e' := nI (l * 35 + sz l * 5)) (by rw [ecp, ecl, ar_cd]) ?_)))
  have ht := kd_cases (D := D) hs hl
  revert K ht
  unfold pu_kd
  generalize hk : l * 35 + sz l * 5 = t
  intro K ht
  have ec : (nI t).toNatClampNeg = t := nI_clamp (by omega)
  have ec1 : (nI t + 1).toNatClampNeg = t + 1 := by rw [ar_a1, nI_clamp (by omega)]
  have it : vp_in (nI t) 560 := vp_in_nI (by omega) (by omega)
  refine And.intro it (br_c (fun g => ?_) (fun g => ?_))
  · rw [ec] at g
    have ho : pu_op V (b_code (t + 1)) := by
      rcases ht with ⟨_, z⟩ | ⟨_, z, _⟩ | ⟨_, _, z, _⟩ | ⟨_, _, z, _⟩ | ⟨_, z, _⟩
      · exact absurd (g.symm.trans z) (by decide)
      · exact absurd (g.symm.trans z) (by decide)
      · exact z
      · exact z
      · exact absurd (g.symm.trans z) (by decide)
    refine And.intro (by rw [ar_a1]; exact vp_in_nI (by omega) (by omega)) (yw_has (fun q => ?_) (fun q => ?_))
    · rw [ec1, dyo_has ho hV hD] at q
      rw [if_neg (fun z => by rw [q] at z; exact absurd z.2 (by decide))] at K
      refine br_f (by decide) (And.intro it ?_)
      rw [ec]; exact K
    · rw [ec1, dyo_has ho hV hD] at q
      rw [if_pos ⟨g, q⟩] at K
      exact br_t rfl K
  · rw [ec] at g
    rw [if_neg (fun z => g z.1)] at K
    refine And.intro it ?_
    rw [ec]; exact K
theorem yw_target {post : Int32 → SY → Prop} {l p : Nat} {x2 : Int32} {s : Bool} (hs : pu_src V B L sz b_code stmt cnt term) (hbs : b_size = cnt) (hV : V ≤ 8) (hL : L ≤ 6) (hl : l < 16) (hp : p < 32) (hpl : b_pLabel p = nI l) (hD : ∀ v, v < V → pu_has g_dyn (nI v) = D v)
    (hx : x2 = 0 ↔ s = false)
    (K : ∀ w : Nat → Int32, (∀ v, v < 8 → w (16 + v) = pu_sn b_code b_rom D l (pu_s0 b_pVal p) (sz l) v) → (∀ j, j < 16 → w j = b_val j) → (∀ j, 24 ≤ j → w j = b_val j) →
      post (pu_tl b_code sz D l (pu_sn b_code b_rom D l (pu_s0 b_pVal p) (sz l)) s) ((nI V), (nI B), (nI L), (nI Q), g_cursor, g_points, g_dyn, g_at, g_place, b_code, b_size, b_rom, b_init, b_marked, b_pLabel, b_pVal, b_status, b_result, b_forks, b_outs, b_out, w)) : wpY_target post ((nI V), (nI B), (nI L), (nI Q), g_cursor, g_points, g_dyn, g_at, g_place, b_code, b_size, b_rom, b_init, b_marked, b_pLabel, b_pVal, b_status, b_result, b_forks, b_outs, b_out, b_val) (nI p) x2 := by
  have hz := Nat.le_trans (sr_sz hs hl) hL
  have ip : vp_in (nI p) 32 := vp_in_nI hp (by omega)
  have ecp : b_pLabel (nI p).toNatClampNeg = nI l := by rw [nI_clamp (by omega), hpl]
  have ecl : b_size (nI l).toNatClampNeg = nI (sz l) := by rw [nI_clamp (by omega), hbs, sr_cnt hs hl]
  have key : ∀ e i, i + e = 8 → ∀ w : Nat → Int32, (∀ v, v < i → w (16 + v) = b_pVal (p * 8 + v)) → (∀ j, j < 16 → w j = b_val j) → (∀ j, 24 ≤ j → w j = b_val j) → ∀ n, e < n → wY_target_2 post (nI p) x2 (nI V) (nI B) (nI L) (nI Q) g_cursor g_points g_dyn g_at g_place n (nI i) b_code b_size b_rom b_init b_marked b_pLabel b_pVal b_status b_result b_forks b_outs b_out w := by
    intro e
    induction e with
    | zero =>
      intro i hi w h1 h2 h5 n hn
      obtain ⟨m, rfl⟩ : ∃ m, n = m + 1 := ⟨n - 1, by omega⟩
      refine br_t (nI_le (a := 8) (by omega) (by omega)) (And.intro ip ?_)
      rw [ecp]
      refine yw_exec2 hs hbs hV hL hl hD (fun w' hw' hw2 => ?_)
      have hst : ∀ v, v < 8 → w' (16 + v) = pu_sn b_code b_rom D l (pu_s0 b_pVal p) (sz l) v := by
        intro v hv
        rw [show w' (16 + v) = (fun v => w' (16 + v)) v from rfl, hw']
        exact sn_ext hV hV (fun v hv => (h1 v (by omega)).trans (s0_at hv).symm) (sz l) (fun j hj => sr_row hs hl hj) v hv
      have h24 : ∀ j, 24 ≤ j → w' j = b_val j := by
        intro j hj
        obtain ⟨v, rfl⟩ : ∃ v, j = 16 + v := ⟨j - 16, by omega⟩
        rw [show w' (16 + v) = (fun v => w' (16 + v)) v from rfl, hw', sn_keep hV (sz l) (fun j hj => sr_row hs hl hj) v (Or.inr (by omega))]
        exact h5 _ hj
      have K := K w' hst (fun j hj => (hw2 j hj).trans (h2 j hj)) h24
      refine And.intro ip (And.intro ip (And.intro (by rw [ecp]; exact vp_in_nI hl (by omega)) (nm_r (e' := nI (l * 35 + sz l * 5)) (by rw [ecp, ecl, ar_cd]) ?_)))
      refine yw_kind hs hbs hV hL hl hp hpl hD ?_
      have ht := kd_cases (D := D) hs hl
      unfold pu_tl at K
      generalize hk : l * 35 + sz l * 5 = t at *
      have ec : (nI t).toNatClampNeg = t := nI_clamp (by omega)
      have ec1 : (nI t + 1).toNatClampNeg = t + 1 := by rw [ar_a1, nI_clamp (by omega)]
      have ec2 : (nI t + 2).toNatClampNeg = t + 2 := by rw [ar_a2, nI_clamp (by omega)]
      have ec3 : (nI t + 3).toNatClampNeg = t + 3 := by rw [ar_a3, nI_clamp (by omega)]
      have it : vp_in (nI t) 560 := vp_in_nI (by omega) (by omega)
      have i1 : vp_in (nI t + 1) 560 := by rw [ar_a1]; exact vp_in_nI (by omega) (by omega)
      have i2 : vp_in (nI t + 2) 560 := by rw [ar_a2]; exact vp_in_nI (by omega) (by omega)
      have i3 : vp_in (nI t + 3) 560 := by rw [ar_a3]; exact vp_in_nI (by omega) (by omega)
      refine br_c (fun k4 => ?_) (fun k4 => ?_)
      · rw [if_pos k4] at K
        refine br_c (fun g => And.intro i2 ?_) (fun g => And.intro i3 ?_)
        · rw [hx.mp g, if_neg (by decide)] at K
          rw [ec2]; exact K
        · rw [if_pos (by rw [← Bool.not_eq_false]; exact fun z => g (hx.mpr z))] at K
          rw [ec3]; exact K
      · rw [if_neg k4] at K
        refine br_c (fun k3 => ?_) (fun k3 => ?_)
        · refine br_c (fun g => And.intro it ?_) (fun g => ?_)
          · rw [if_pos ⟨k3, hx.mp g⟩] at K
            refine br_c (fun q => And.intro i1 ?_) (fun q => And.intro i1 ?_)
            · rw [ec] at q; rw [if_pos q] at K; rw [ec1]; exact K
            · rw [ec] at q
              rw [if_neg q] at K
              have ho : pu_op V (b_code (t + 1)) := by
                rcases ht with ⟨z, _⟩ | ⟨_, z, _⟩ | ⟨_, _, z, _⟩ | ⟨_, _, z, _⟩ | ⟨z, _, _⟩
                · exact absurd (k3.symm.trans z) (by decide)
                · exact absurd z q
                · exact z
                · exact z
                · exact absurd (k3.symm.trans z) (by decide)
              refine yw_value (congrArg b_code ec1) hV (b := 2) (by omega) ho ?_
              rw [ov_ext (st' := pu_sn b_code b_rom D l (pu_s0 b_pVal p) (sz l)) hV ho (fun v hv => hst v (by omega))]
              refine br_c (fun y => And.intro i3 ?_) (fun y => And.intro i2 ?_)
              · rw [if_pos y] at K; rw [ec3]; exact K
              · rw [if_neg y] at K; rw [ec2]; exact K
          · rw [if_neg (fun z => g (hx.mpr z.2))] at K; exact K
        · rw [if_neg (fun z => k3 z.1)] at K; exact K
    | succ e ih =>
      intro i hi w h1 h2 h5 n hn
      obtain ⟨m, rfl⟩ : ∃ m, n = m + 1 := ⟨n - 1, by omega⟩
      refine br_f (nI_ge (b := 8) (by omega) (by omega)) (And.intro (by rw [ar_m8]; exact vp_in_nI (by omega) (by omega)) (And.intro (by rw [ar_16]; exact vp_in_nI (by omega) (by omega)) (nm_r (e' := upd w (16 + i) (b_pVal (p * 8 + i))) (by rw [ar_16, ar_m8, nI_clamp (by omega), nI_clamp (by omega)]) (nm_r (ar_a1 i) (ih (i + 1) (by omega) _ (lt_s (fun v hv => ?_) pk_us) (fun j hj => ?_) (fun j hj => ?_) m (by omega))))))
      · rw [pk_un (by omega)]; exact h1 v hv
      · rw [pk_un (by omega)]; exact h2 j hj
      · rw [pk_un (by omega)]; exact h5 j hj
  exact ⟨9, key 8 0 (by omega) b_val (fun v hv => by omega) (fun _ _ => rfl) (fun _ _ => rfl) _ (by omega)⟩
end
end
section
section
variable {V B L Q n : Nat} {g_cursor g_points g_dyn g_at g_place : Int32} {b_code b_size b_rom b_init b_marked b_pLabel b_pVal b_status b_result b_forks b_outs b_out b_val : Nat → Int32} {sz : Nat → Nat} {stmt cnt term : Nat → Int32} {D : Nat → Bool}
theorem yw_find29 {post : Int32 → Prop} {J2 : Int32 → Prop} {lab : Int32} {q : Nat} {P : Prop} (hq : q < 32)
    (h1 : P → (∀ v, v < 8 → b_pVal (q * 8 + v) = b_val (16 + v)) → post (nI q)) (h0 : ¬ (P ∧ ∀ v, v < 8 → b_pVal (q * 8 + v) = b_val (16 + v)) → J2 (nI (q + 1))) :
    ∀ e i, i + e = 8 → ∀ x, ((x = 1 ∧ P ∧ ∀ v, v < i → b_pVal (q * 8 + v) = b_val (16 + v)) ∨ (x = 0 ∧ ¬ (P ∧ ∀ v, v < i → b_pVal (q * 8 + v) = b_val (16 + v)))) → ∀ n, e < n → wY_find_29 post J2 lab (nI q) (nI V) (nI B) (nI L) (nI Q) g_cursor g_points g_dyn g_at g_place b_code b_size b_rom b_init b_marked b_pLabel b_pVal b_status b_result b_forks b_outs b_out b_val n x (nI i) := by
  intro e
  induction e with
  | zero =>
    intro i hi x hx n hn
    obtain ⟨m, rfl⟩ : ∃ m, n = m + 1 := ⟨n - 1, by omega⟩
    obtain rfl : i = 8 := by omega
    refine br_t (nI_le (a := 8) (by omega) (by omega)) ?_
    rcases hx with ⟨a, b, c⟩ | ⟨a, b⟩
    · exact br_f (by rw [a]; decide) (h1 b c)
    · exact br_t a (nm_r (ar_a1 q) (h0 b))
  | succ e ih =>
    intro i hi x hx n hn
    obtain ⟨m, rfl⟩ : ∃ m, n = m + 1 := ⟨n - 1, by omega⟩
    refine br_f (nI_ge (b := 8) (by omega) (by omega)) ?_
    rcases hx with ⟨a, b, c⟩ | ⟨a, b⟩
    · have e1 : (nI q * 8 + nI i).toNatClampNeg = q * 8 + i := by rw [ar_m8, nI_clamp (by omega)]
      have e2 : (16 + nI i).toNatClampNeg = 16 + i := by rw [ar_16, nI_clamp (by omega)]
      refine br_f (by rw [a]; decide) (And.intro (by rw [ar_m8]; exact vp_in_nI (by omega) (by omega)) (And.intro (by rw [ar_16]; exact vp_in_nI (by omega) (by omega)) (br_c (fun g => ?_) (fun g => ?_))))
      · rw [e1, e2] at g
        exact nm_r (ar_a1 i) (ih (i + 1) (by omega) 1 (Or.inl ⟨rfl, b, lt_s c g⟩) m (by omega))
      · rw [e1, e2] at g
        exact nm_r (ar_a1 i) (ih (i + 1) (by omega) 0 (Or.inr ⟨rfl, fun z => g (z.2 i (by omega))⟩) m (by omega))
    · exact br_t a (nm_r (ar_a1 i) (ih (i + 1) (by omega) 0 (Or.inr ⟨rfl, fun z => b ⟨z.1, fun v hv => z.2 v (by omega)⟩⟩) m (by omega)))
theorem yw_find {post : Int32 → Prop} {lab : Int32} {st : Nat → Int32} (hn : n ≤ 32) (hV : V ≤ 8) (hp : ∀ p v, p < n → v < 8 → V ≤ v → b_pVal (p * 8 + v) = 0) (hst : ∀ v, v < 8 → b_val (16 + v) = st v) (hst0 : ∀ v, v < 8 → V ≤ v → st v = 0)
    (h1 : ∀ q, q < n → pu_mt V b_pLabel b_pVal q lab st → post (nI q)) (h0 : (∀ q, q < n → ¬ pu_mt V b_pLabel b_pVal q lab st) → post (-1)) : wpY_find post ((nI V), (nI B), (nI L), (nI Q), g_cursor, (nI n), g_dyn, g_at, g_place, b_code, b_size, b_rom, b_init, b_marked, b_pLabel, b_pVal, b_status, b_result, b_forks, b_outs, b_out, b_val) lab := by
  have key : ∀ e q, q + e = n → (∀ q', q' < q → ¬ pu_mt V b_pLabel b_pVal q' lab st) → ∀ k, e < k → wY_find_2 post lab (nI V) (nI B) (nI L) (nI Q) g_cursor (nI n) g_dyn g_at g_place b_code b_size b_rom b_init b_marked b_pLabel b_pVal b_status b_result b_forks b_outs b_out b_val k (nI q) := by
    intro e
    induction e with
    | zero =>
      intro q hq hno k hk
      obtain ⟨m, rfl⟩ : ∃ m, k = m + 1 := ⟨k - 1, by omega⟩
      obtain rfl : q = n := by omega
      exact br_t (nI_le (by omega) (by omega)) (h0 hno)
    | succ e ih =>
      intro q hq hno k hk
      obtain ⟨m, rfl⟩ : ∃ m, k = m + 1 := ⟨k - 1, by omega⟩
      have ec : (nI q).toNatClampNeg = q := nI_clamp (by omega)
      have a1 : b_pLabel q = lab → (∀ v, v < 8 → b_pVal (q * 8 + v) = b_val (16 + v)) → post (nI q) := fun e1 e2 => h1 q (by omega) ⟨e1, fun v hv => (e2 v (by omega)).trans (hst v (by omega))⟩
      have a0 : ¬ (b_pLabel q = lab ∧ ∀ v, v < 8 → b_pVal (q * 8 + v) = b_val (16 + v)) → wY_find_2 post lab (nI V) (nI B) (nI L) (nI Q) g_cursor (nI n) g_dyn g_at g_place b_code b_size b_rom b_init b_marked b_pLabel b_pVal b_status b_result b_forks b_outs b_out b_val m (nI (q + 1)) := by
        intro h
        refine ih (q + 1) (by omega) (lt_s hno (fun z => h ⟨z.1, fun v hv => ?_⟩)) m (by omega)
        by_cases y : v < V
        · exact (z.2 v y).trans (hst v hv).symm
        · rw [hp q v (by omega) hv (by omega), hst v hv, hst0 v hv (by omega)]
      refine br_f (nI_ge (by omega) (by omega)) (And.intro (vp_in_nI (by omega) (by omega)) (br_c (fun g => ?_) (fun g => ?_)))
      · rw [ec] at g
        exact ⟨9, yw_find29 (by omega) a1 a0 8 0 (by omega) 1 (Or.inl ⟨rfl, g, fun v hv => by omega⟩) _ (by omega)⟩
      · rw [ec] at g
        exact ⟨9, yw_find29 (by omega) a1 a0 8 0 (by omega) 0 (Or.inr ⟨rfl, fun z => g z.1⟩) _ (by omega)⟩
  exact ⟨n + 1, key n 0 (by omega) (fun q hq => by omega) _ (by omega)⟩
/-- the static store is 0 where no variable is -/
theorem sb_0 {pl pv rom : Nat → Int32} {p : Nat} (hs : pu_src V B L sz b_code stmt cnt term) (hV : V ≤ 8) (hB : B ≤ 16) (hpt : pu_pt V B n D pl pv) (hp : p < n) : ∀ v, v < 8 → (V ≤ v ∨ D v = true) → pu_sb b_code rom sz D pl pv p v = 0 := by
  intro v hv h
  obtain ⟨l, hl, e⟩ := hpt.1 p hp
  unfold pu_sb
  rw [e, nI_clamp (by omega), sn_keep hV (sz l) (fun j hj => sr_row hs (by omega) hj) v h.symm, s0_at hv]
  exact hpt.2.1 p v hp hv h
theorem yw_succ {post : Int32 → SY → Prop} {p : Nat} {x2 r : Int32} {s : Bool} (hs : pu_src V B L sz b_code stmt cnt term) (hbs : b_size = cnt) (hV : V ≤ 8) (hL : L ≤ 6) (hB : B ≤ 16) (hn : n ≤ 32) (hp : p < n)
    (hpt : pu_pt V B n D b_pLabel b_pVal) (hD : ∀ v, v < V → pu_has g_dyn (nI v) = D v) (hx : x2 = 0 ↔ s = false) (hr : pu_sc V n b_code b_rom sz D b_pLabel b_pVal p s r)
    (K : ∀ w : Nat → Int32, (∀ j, j < 16 → w j = b_val j) → post r ((nI V), (nI B), (nI L), (nI Q), g_cursor, (nI n), g_dyn, g_at, g_place, b_code, b_size, b_rom, b_init, b_marked, b_pLabel, b_pVal, b_status, b_result, b_forks, b_outs, b_out, w)) : wpY_successor post ((nI V), (nI B), (nI L), (nI Q), g_cursor, (nI n), g_dyn, g_at, g_place, b_code, b_size, b_rom, b_init, b_marked, b_pLabel, b_pVal, b_status, b_result, b_forks, b_outs, b_out, b_val) (nI p) x2 := by
  obtain ⟨l, hl, e⟩ := hpt.1 p hp
  have hu := fun q => sc_uniq (q := q) hn hpt hr
  have h0 := sb_0 (rom := b_rom) hs hV hB hpt hp
  have ecl : (nI l).toNatClampNeg = l := nI_clamp (by omega)
  unfold pu_sc at hr
  unfold pu_sb at hr hu h0
  rw [e, ecl] at hr hu h0
  unfold wpY_successor
  refine yw_target hs hbs hV hL (by omega) (by omega) e hD hx (fun w h1 h2 _ => ?_)
  refine br_c (fun g => ?_) (fun g => ?_)
  · rcases hr with hr | ⟨q, hq, er, hm⟩
    · exact absurd hr.1 (ar_nlt g)
    · refine yw_find hn hV (fun p v a b c => hpt.2.1 p v a b (Or.inl c)) h1 (fun v a b => h0 v a (Or.inl b)) (fun q hq hm => ?_) (fun hno => absurd hm (hno q hq))
      rw [← hu q hq (ar_nlt g) hm]
      exact K w h2
  · rcases hr with hr | ⟨q, hq, er, hm⟩
    · rw [← hr.2]; exact K w h2
    · rcases tl_lab (D := D) hs (show l < 16 by omega) (pu_sn b_code b_rom D l (pu_s0 b_pVal p) (sz l)) s with y | ⟨k, hk, y⟩
      · obtain ⟨l', hl', e'⟩ := hpt.1 q hq
        have := hm.1
        rw [e', y] at this
        exact absurd this (ar_ne1 (by omega))
      · exact absurd (nI_pos' (n := k) (by omega)) (by rw [← y]; exact g)
/-! the order -/
theorem yw_less {post : Int32 → Prop} {p q : Nat} (hn : n ≤ 32) (hV : V ≤ 8) (hp : p < n) (hq : q < n) (hpt : pu_pt V B n D b_pLabel b_pVal)
    (h1 : pu_ls V b_pLabel b_pVal p q = true → post 1) (h0 : pu_ls V b_pLabel b_pVal p q = false → post 0) : wpY_less post ((nI V), (nI B), (nI L), (nI Q), g_cursor, g_points, g_dyn, g_at, g_place, b_code, b_size, b_rom, b_init, b_marked, b_pLabel, b_pVal, b_status, b_result, b_forks, b_outs, b_out, b_val) (nI p) (nI q) := by
  have ip : vp_in (nI p) 32 := vp_in_nI (by omega) (by omega)
  have iq : vp_in (nI q) 32 := vp_in_nI (by omega) (by omega)
  have ep : (nI p).toNatClampNeg = p := nI_clamp (by omega)
  have eq : (nI q).toNatClampNeg = q := nI_clamp (by omega)
  have key : ∀ e i, i + e = 8 → (pu_lx b_pVal p q e i = true → post 1) → (pu_lx b_pVal p q e i = false → post 0) → ∀ k, e < k → wY_less_38 post (nI p) (nI q) (nI V) (nI B) (nI L) (nI Q) g_cursor g_points g_dyn g_at g_place b_code b_size b_rom b_init b_marked b_pLabel b_pVal b_status b_result b_forks b_outs b_out b_val k (nI i) := by
    intro e
    induction e with
    | zero =>
      intro i hi h1 h0 k hk
      obtain ⟨m, rfl⟩ : ∃ m, k = m + 1 := ⟨k - 1, by omega⟩
      exact br_t (nI_le (a := 8) (by omega) (by omega)) (h0 rfl)
    | succ e ih =>
      intro i hi h1 h0 k hk
      obtain ⟨m, rfl⟩ : ∃ m, k = m + 1 := ⟨k - 1, by omega⟩
      have e1 : (nI p * 8 + nI i).toNatClampNeg = p * 8 + i := by rw [ar_m8, nI_clamp (by omega)]
      have e2 : (nI q * 8 + nI i).toNatClampNeg = q * 8 + i := by rw [ar_m8, nI_clamp (by omega)]
      have i1 : vp_in (nI p * 8 + nI i) 256 := by rw [ar_m8]; exact vp_in_nI (by omega) (by omega)
      have i2 : vp_in (nI q * 8 + nI i) 256 := by rw [ar_m8]; exact vp_in_nI (by omega) (by omega)
      unfold pu_lx at h1 h0
      refine br_f (nI_ge (b := 8) (by omega) (by omega)) (And.intro i1 (And.intro i2 (br_c (fun g => ?_) (fun g => ?_))))
      · rw [e1, e2] at g
        rw [if_pos g] at h1 h0
        exact nm_r (ar_a1 i) (ih (i + 1) (by omega) h1 h0 m (by omega))
      · rw [e1, e2] at g
        rw [if_neg g] at h1 h0
        refine And.intro i1 (And.intro i2 (br_c (fun y => ?_) (fun y => ?_)))
        · rw [e1, e2] at y; exact h0 (decide_eq_false (ar_nlt y))
        · rw [e1, e2] at y; exact h1 (decide_eq_true (ar_le y))
  have hlx : pu_lx b_pVal p q 8 0 = pu_lx b_pVal p q V 0 := by
    have := lx_more (pv := b_pVal) (p := p) (q := q) (8 - V) V 0 (fun v h1 h2 => by rw [hpt.2.1 p v hp (by omega) (Or.inl (by omega)), hpt.2.1 q v hq (by omega) (Or.inl (by omega))])
    rw [← this]; congr 1; omega
  unfold pu_ls at h1 h0
  refine And.intro ip (And.intro iq (br_c (fun g => ?_) (fun g => ?_)))
  · rw [ep, eq] at g
    rw [if_pos g, ← hlx] at h1 h0
    exact ⟨9, key 8 0 (by omega) h1 h0 _ (by omega)⟩
  · rw [ep, eq] at g
    rw [if_neg g] at h1 h0
    refine And.intro ip (And.intro iq (br_c (fun y => ?_) (fun y => ?_)))
    · rw [ep, eq] at y; exact h0 (decide_eq_false (ar_nlt y))
    · rw [ep, eq] at y; exact h1 (decide_eq_true (ar_le y))
theorem yw_rank {post : Int32 → Prop} {p : Nat} (hn : n ≤ 32) (hV : V ≤ 8) (hp : p < n) (hpt : pu_pt V B n D b_pLabel b_pVal)
    (K : post (nI (pu_rk V n b_pLabel b_pVal p))) : wpY_rank post ((nI V), (nI B), (nI L), (nI Q), g_cursor, (nI n), g_dyn, g_at, g_place, b_code, b_size, b_rom, b_init, b_marked, b_pLabel, b_pVal, b_status, b_result, b_forks, b_outs, b_out, b_val) (nI p) := by
  have key : ∀ e q, q + e = n → ∀ k, e < k → wY_rank_4 post (nI p) (nI V) (nI B) (nI L) (nI Q) g_cursor (nI n) g_dyn g_at g_place b_code b_size b_rom b_init b_marked b_pLabel b_pVal b_status b_result b_forks b_outs b_out b_val k (nI (pu_cn (fun q => pu_ls V b_pLabel b_pVal q p) q)) (nI q) := by
    intro e
    induction e with
    | zero =>
      intro q hq k hk
      obtain ⟨m, rfl⟩ : ∃ m, k = m + 1 := ⟨k - 1, by omega⟩
      obtain rfl : q = n := by omega
      exact br_t (nI_le (by omega) (by omega)) K
    | succ e ih =>
      intro q hq k hk
      obtain ⟨m, rfl⟩ : ∃ m, k = m + 1 := ⟨k - 1, by omega⟩
      have ih := ih (q + 1) (by omega) m (by omega)
      unfold pu_cn at ih
      refine br_f (nI_ge (by omega) (by omega)) (yw_less hn hV (by omega) hp hpt (fun g => ?_) (fun g => ?_))
      · rw [if_pos g] at ih
        exact br_f (by decide) (nm_r (ar_a1 _) (nm_r (ar_a1 q) ih))
      · rw [if_neg (by rw [g]; decide)] at ih
        exact br_t rfl (nm_r (ar_a1 q) ih)
  exact ⟨n + 1, key n 0 (by omega) _ (by omega)⟩
theorem yw_ranked {post : Int32 → Prop} {r : Nat} (hn : n ≤ 32) (hV : V ≤ 8) (hr : r < n) (hpt : pu_pt V B n D b_pLabel b_pVal)
    (K : ∀ p, p < n → pu_rk V n b_pLabel b_pVal p = r → post (nI p)) : wpY_ranked post ((nI V), (nI B), (nI L), (nI Q), g_cursor, (nI n), g_dyn, g_at, g_place, b_code, b_size, b_rom, b_init, b_marked, b_pLabel, b_pVal, b_status, b_result, b_forks, b_outs, b_out, b_val) (nI r) := by
  have key : ∀ e q, q + e = n → (∀ q', q' < q → pu_rk V n b_pLabel b_pVal q' ≠ r) → ∀ k, e < k → wY_ranked_2 post (nI r) (nI V) (nI B) (nI L) (nI Q) g_cursor (nI n) g_dyn g_at g_place b_code b_size b_rom b_init b_marked b_pLabel b_pVal b_status b_result b_forks b_outs b_out b_val k (nI q) := by
    intro e
    induction e with
    | zero =>
      intro q hq hno k hk
      obtain ⟨p, hp, e⟩ := rk_sur hpt.2.2 hr
      exact absurd e (hno p (by omega))
    | succ e ih =>
      intro q hq hno k hk
      obtain ⟨m, rfl⟩ : ∃ m, k = m + 1 := ⟨k - 1, by omega⟩
      have hb := rk_bd (V := V) (pl := b_pLabel) (pv := b_pVal) (show q < n by omega)
      refine br_f (nI_ge (by omega) (by omega)) (yw_rank hn hV (by omega) hpt (br_c (fun g => ?_) (fun g => ?_)))
      · exact K q (by omega) ((nI_eq (by omega) (by omega)).mp g)
      · exact nm_r (ar_a1 q) (ih (q + 1) (by omega) (lt_s hno (fun z => g (by rw [z]))) m (by omega))
  exact ⟨n + 1, key n 0 (by omega) (fun q hq => by omega) _ (by omega)⟩
/-! doomed, head -/
theorem yw_doomed {post : Int32 → SY → Prop} {p : Nat} {F : Nat → Int32} (hs : pu_src V B L sz b_code stmt cnt term) (hbs : b_size = cnt) (hV : V ≤ 8) (hL : L ≤ 6) (hB : B ≤ 16) (hn : n ≤ 32) (hp : p < n)
    (hpt : pu_pt V B n D b_pLabel b_pVal) (hD : ∀ v, v < V → pu_has g_dyn (nI v) = D v) (hF : ∀ p, p < n → pu_sc V n b_code b_rom sz D b_pLabel b_pVal p false (F p))
    (h1 : (∀ k, k ≤ 32 → pu_kd b_code sz D (b_pLabel (pu_ch F p k)).toNatClampNeg = 3) → ∀ w : Nat → Int32, (∀ j, j < 16 → w j = b_val j) → post 1 ((nI V), (nI B), (nI L), (nI Q), g_cursor, (nI n), g_dyn, g_at, g_place, b_code, b_size, b_rom, b_init, b_marked, b_pLabel, b_pVal, b_status, b_result, b_forks, b_outs, b_out, w))
    (h0 : (∃ k, k ≤ 32 ∧ pu_kd b_code sz D (b_pLabel (pu_ch F p k)).toNatClampNeg ≠ 3) → ∀ w : Nat → Int32, (∀ j, j < 16 → w j = b_val j) → post 0 ((nI V), (nI B), (nI L), (nI Q), g_cursor, (nI n), g_dyn, g_at, g_place, b_code, b_size, b_rom, b_init, b_marked, b_pLabel, b_pVal, b_status, b_result, b_forks, b_outs, b_out, w)) :
    wpY_doomed post ((nI V), (nI B), (nI L), (nI Q), g_cursor, (nI n), g_dyn, g_at, g_place, b_code, b_size, b_rom, b_init, b_marked, b_pLabel, b_pVal, b_status, b_result, b_forks, b_outs, b_out, b_val) (nI p) := by
  have key : ∀ e i, i + e = 33 → pu_ch F p i < n → (∀ k, k < i → pu_kd b_code sz D (b_pLabel (pu_ch F p k)).toNatClampNeg = 3) → ∀ w : Nat → Int32, (∀ j, j < 16 → w j = b_val j) → ∀ k, e < k → wY_doomed_4 post k (nI (pu_ch F p i)) (nI i) (nI V) (nI B) (nI L) (nI Q) g_cursor (nI n) g_dyn g_at g_place b_code b_size b_rom b_init b_marked b_pLabel b_pVal b_status b_result b_forks b_outs b_out w := by
    intro e
    induction e with
    | zero =>
      intro i hi hc hall w hw k hk
      obtain ⟨m, rfl⟩ : ∃ m, k = m + 1 := ⟨k - 1, by omega⟩
      exact br_t (nI_lt (a := 32) (by omega) (by omega)) (h1 (fun k hk => hall k (by omega)) w hw)
    | succ e ih =>
      intro i hi hc hall w hw k hk
      obtain ⟨m, rfl⟩ : ∃ m, k = m + 1 := ⟨k - 1, by omega⟩
      obtain ⟨l, hl, el⟩ := hpt.1 _ hc
      have ecl : (nI l).toNatClampNeg = l := nI_clamp (by omega)
      refine br_f (nI_nlt (a := 32) (b := i) (by omega) (by omega)) (yw_kind hs hbs hV hL (show l < 16 by omega) (by omega) el hD (br_c (fun g => ?_) (fun g => ?_)))
      · have hsc := hF _ hc
        have hj := tl_jump (st := pu_sb b_code b_rom sz D b_pLabel b_pVal (pu_ch F p i)) hs (show l < 16 by omega) hB g
        have hq : ∃ q, q < n ∧ F (pu_ch F p i) = nI q := by
          rcases hsc with z | ⟨q, hq, e, _⟩
          · rw [el, ecl] at z; exact absurd z.1 hj
          · exact ⟨q, hq, e⟩
        obtain ⟨q, hq, eq⟩ := hq
        have ech : pu_ch F p (i + 1) = q := by show (F (pu_ch F p i)).toNatClampNeg = q; rw [eq, nI_clamp (by omega)]
        refine yw_succ (s := false) hs hbs hV hL hB hn hc hpt hD ⟨fun _ => rfl, fun _ => rfl⟩ hsc (fun w' hw' => nm_r (ar_a1 i) ?_)
        have := ih (i + 1) (by omega) (by rw [ech]; exact hq) (lt_s hall (by rw [el, ecl]; exact g)) w' (fun j hj => (hw' j hj).trans (hw j hj)) m (by omega)
        rw [ech] at this
        rw [eq]
        exact this
      · exact h0 ⟨i, by omega, by rw [el, ecl]; exact g⟩ w hw
  exact ⟨34, key 33 0 (by omega) hp (fun k hk => by omega) b_val (fun _ _ => rfl) _ (by omega)⟩
theorem yw_head {post : Int32 → SY → Prop} {p : Nat} {F S : Nat → Int32} (hs : pu_src V B L sz b_code stmt cnt term) (hbs : b_size = cnt) (hV : V ≤ 8) (hL : L ≤ 6) (hB : B ≤ 16) (hn : n ≤ 32) (hp : p < n)
    (hpt : pu_pt V B n D b_pLabel b_pVal) (hD : ∀ v, v < V → pu_has g_dyn (nI v) = D v) (hF : ∀ p, p < n → pu_sc V n b_code b_rom sz D b_pLabel b_pVal p false (F p)) (hS : ∀ p, p < n → pu_sc V n b_code b_rom sz D b_pLabel b_pVal p true (S p))
    (h1 : (p = 0 ∨ ∃ q, q < n ∧ pu_kd b_code sz D (b_pLabel q).toNatClampNeg = 4 ∧ (F q = nI p ∨ S q = nI p)) → ∀ w : Nat → Int32, (∀ j, j < 16 → w j = b_val j) → post 1 ((nI V), (nI B), (nI L), (nI Q), g_cursor, (nI n), g_dyn, g_at, g_place, b_code, b_size, b_rom, b_init, b_marked, b_pLabel, b_pVal, b_status, b_result, b_forks, b_outs, b_out, w))
    (h0 : ¬ (p = 0 ∨ ∃ q, q < n ∧ pu_kd b_code sz D (b_pLabel q).toNatClampNeg = 4 ∧ (F q = nI p ∨ S q = nI p)) → ∀ w : Nat → Int32, (∀ j, j < 16 → w j = b_val j) → post 0 ((nI V), (nI B), (nI L), (nI Q), g_cursor, (nI n), g_dyn, g_at, g_place, b_code, b_size, b_rom, b_init, b_marked, b_pLabel, b_pVal, b_status, b_result, b_forks, b_outs, b_out, w)) :
    wpY_head post ((nI V), (nI B), (nI L), (nI Q), g_cursor, (nI n), g_dyn, g_at, g_place, b_code, b_size, b_rom, b_init, b_marked, b_pLabel, b_pVal, b_status, b_result, b_forks, b_outs, b_out, b_val) (nI p) := by
  by_cases hp0 : p = 0
  · subst hp0
    exact br_t rfl (h1 (Or.inl rfl) b_val (fun _ _ => rfl))
  have key : ∀ e q, q + e = n → (∀ q', q' < q → ¬ (pu_kd b_code sz D (b_pLabel q').toNatClampNeg = 4 ∧ (F q' = nI p ∨ S q' = nI p))) → ∀ w : Nat → Int32, (∀ j, j < 16 → w j = b_val j) → ∀ k, e < k → wY_head_8 post (nI p) k (nI q) (nI V) (nI B) (nI L) (nI Q) g_cursor (nI n) g_dyn g_at g_place b_code b_size b_rom b_init b_marked b_pLabel b_pVal b_status b_result b_forks b_outs b_out w := by
    intro e
    induction e with
    | zero =>
      intro q hq hno w hw k hk
      obtain ⟨m, rfl⟩ : ∃ m, k = m + 1 := ⟨k - 1, by omega⟩
      obtain rfl : q = n := by omega
      refine br_t (nI_le (by omega) (by omega)) (h0 ?_ w hw)
      rintro (z | ⟨q', hq', z⟩)
      · exact hp0 z
      · exact hno q' hq' z
    | succ e ih =>
      intro q hq hno w hw k hk
      obtain ⟨m, rfl⟩ : ∃ m, k = m + 1 := ⟨k - 1, by omega⟩
      obtain ⟨l, hl, el⟩ := hpt.1 q (by omega)
      have ecl : (nI l).toNatClampNeg = l := nI_clamp (by omega)
      refine br_f (nI_ge (by omega) (by omega)) (yw_kind hs hbs hV hL (show l < 16 by omega) (by omega) el hD (br_c (fun g => ?_) (fun g => ?_)))
      · have g' : pu_kd b_code sz D (b_pLabel q).toNatClampNeg = 4 := by rw [el, ecl]; exact g
        refine yw_succ (s := false) hs hbs hV hL hB hn (by omega) hpt hD ⟨fun _ => rfl, fun _ => rfl⟩ (hF q (by omega)) (fun w1 hw1 => br_c (fun y => ?_) (fun y => ?_))
        · exact h1 (Or.inr ⟨q, by omega, g', Or.inl y⟩) w1 (fun j hj => (hw1 j hj).trans (hw j hj))
        · refine yw_succ (s := true) hs hbs hV hL hB hn (by omega) hpt hD ⟨fun z => absurd z (by decide), fun z => absurd z (by decide)⟩ (hS q (by omega)) (fun w2 hw2 => br_c (fun y2 => ?_) (fun y2 => ?_))
          · exact h1 (Or.inr ⟨q, by omega, g', Or.inr y2⟩) w2 (fun j hj => (hw2 j hj).trans ((hw1 j hj).trans (hw j hj)))
          · refine nm_r (ar_a1 q) (ih (q + 1) (by omega) (lt_s hno (fun z => ?_)) w2 (fun j hj => (hw2 j hj).trans ((hw1 j hj).trans (hw j hj))) m (by omega))
            rcases z.2 with z | z
            · exact y z
            · exact y2 z
      · refine nm_r (ar_a1 q) (ih (q + 1) (by omega) (lt_s hno (fun z => g ?_)) w hw m (by omega))
        rw [el, ecl] at z; exact z.1
  exact br_f (nI_ne0 (by omega) (by omega)) ⟨n + 1, key n 0 (by omega) (fun q hq => by omega) b_val (fun _ _ => rfl) _ (by omega)⟩
/-! add -/
theorem yw_add {post : SY → Prop} {lab : Int32} (hn : n < 32)
    (K : ∀ pv : Nat → Int32, (∀ v, v < 8 → pv (n * 8 + v) = b_val (16 + v)) → (∀ j, (j < n * 8 ∨ n * 8 + 8 ≤ j) → pv j = b_pVal j) → post ((nI V), (nI B), (nI L), (nI Q), g_cursor, (nI (n + 1)), g_dyn, g_at, g_place, b_code, b_size, b_rom, b_init, b_marked, (upd b_pLabel n lab), pv, b_status, b_result, b_forks, b_outs, b_out, b_val)) : wpY_add post ((nI V), (nI B), (nI L), (nI Q), g_cursor, (nI n), g_dyn, g_at, g_place, b_code, b_size, b_rom, b_init, b_marked, b_pLabel, b_pVal, b_status, b_result, b_forks, b_outs, b_out, b_val) lab := by
  have key : ∀ e i, i + e = 8 → ∀ pv : Nat → Int32, (∀ v, v < i → pv (n * 8 + v) = b_val (16 + v)) → (∀ j, (j < n * 8 ∨ n * 8 + 8 ≤ j) → pv j = b_pVal j) → ∀ k, e < k → wY_add_12 post (nI V) (nI B) (nI L) (nI Q) g_cursor (nI n) g_dyn g_at g_place k (nI i) b_code b_size b_rom b_init b_marked (upd b_pLabel n lab) pv b_status b_result b_forks b_outs b_out b_val := by
    intro e
    induction e with
    | zero =>
      intro i hi pv h1 h2 k hk
      obtain ⟨m, rfl⟩ : ∃ m, k = m + 1 := ⟨k - 1, by omega⟩
      exact br_t (nI_le (a := 8) (by omega) (by omega)) (nm_r (ar_a1 n) (K pv (fun v hv => h1 v (by omega)) h2))
    | succ e ih =>
      intro i hi pv h1 h2 k hk
      obtain ⟨m, rfl⟩ : ∃ m, k = m + 1 := ⟨k - 1, by omega⟩
      refine br_f (nI_ge (b := 8) (by omega) (by omega)) (And.intro (by rw [ar_16]; exact vp_in_nI (by omega) (by omega)) (And.intro (by rw [ar_m8]; exact vp_in_nI (by omega) (by omega)) (nm_r (e' := upd pv (n * 8 + i) (b_val (16 + i))) (by rw [ar_16, ar_m8, nI_clamp (by omega), nI_clamp (by omega)]) (nm_r (ar_a1 i) (ih (i + 1) (by omega) _ (lt_s (fun v hv => ?_) pk_us) (fun j hj => ?_) m (by omega))))))
      · rw [pk_un (by omega)]; exact h1 v hv
      · rw [pk_un (by omega)]; exact h2 j hj
  exact And.intro (vp_in_nI hn (by omega)) (nm_r (e' := upd b_pLabel n lab) (by rw [nI_clamp (by omega)]) ⟨9, key 8 0 (by omega) b_pVal (fun v hv => by omega) (fun _ _ => rfl) _ (by omega)⟩)
end
end
section
/-- the outcome of looking a point up, or making it -/
def pu_int (V Q n : Nat) (pl bf : Nat → Int32) (lab : Int32) (st : Nat → Int32) (r : Int32) (n' : Nat) (pl' bf' : Nat → Int32) : Prop :=
  (∃ q, q < n ∧ r = nI q ∧ pu_mt V pl bf q lab st ∧ n' = n ∧ pl' = pl ∧ bf' = bf) ∨
  ((∀ q, q < n → ¬ pu_mt V pl bf q lab st) ∧ n < Q ∧ r = nI n ∧ n' = n + 1 ∧ pl' = upd pl n lab ∧ (∀ v, v < V → bf' (n * 8 + v) = st v) ∧ ∀ j, (j < n * 8 ∨ n * 8 + 8 ≤ j) → bf' j = bf j) ∨
  ((∀ q, q < n → ¬ pu_mt V pl bf q lab st) ∧ ¬ n < Q ∧ r = -1 ∧ n' = n ∧ pl' = pl ∧ bf' = bf)
section
variable {V B L Q n : Nat} {f_residualMachine f_directMachine f_work f_opMove f_opOut f_countCap f_cursorLabel f_residual f_found f_codeSize : Int32} {a_stmt a_stmtCount a_term a_rom a_initial a_marked a_uses a_dist a_ptLabel a_ptKind a_ptFirst a_ptSecond a_before a_after a_exitOf a_head a_rankOf a_byRank a_codeStart a_codeEnd a_codeOp a_codeDst a_codeMode a_codeX a_codeY a_values a_status a_result a_forks a_outCount a_output a_place : Nat → Int32} {sz : Nat → Nat} {cd : Nat → Int32} {D : Nat → Bool}
theorem xw_hasW {post : Int32 → Prop} {p : Nat} (hV : V ≤ 8) (hp : p < 32) (h1 : (∀ v, v < V → a_before (p * 8 + v) = a_values (16 + v)) → post 1) (h0 : ¬ (∀ v, v < V → a_before (p * 8 + v) = a_values (16 + v)) → post 0) : wpX_hasWorkStore post ((nI V), (nI B), (nI L), (nI Q), f_residualMachine, f_directMachine, f_work, f_opMove, f_opOut, f_countCap, f_cursorLabel, f_residual, f_found, f_codeSize, a_stmt, a_stmtCount, a_term, a_rom, a_initial, a_marked, a_uses, a_dist, a_ptLabel, a_ptKind, a_ptFirst, a_ptSecond, a_before, a_after, a_exitOf, a_head, a_rankOf, a_byRank, a_codeStart, a_codeEnd, a_codeOp, a_codeDst, a_codeMode, a_codeX, a_codeY, a_values, a_status, a_result, a_forks, a_outCount, a_output, a_place) (nI p) := by
  have key : ∀ e i, i + e = V → (∀ v, v < i → a_before (p * 8 + v) = a_values (16 + v)) → ∀ k, e < k → wX_hasWorkStore_2 post (nI p) (nI V) (nI B) (nI L) (nI Q) f_residualMachine f_directMachine f_work f_opMove f_opOut f_countCap f_cursorLabel f_residual f_found f_codeSize a_stmt a_stmtCount a_term a_rom a_initial a_marked a_uses a_dist a_ptLabel a_ptKind a_ptFirst a_ptSecond a_before a_after a_exitOf a_head a_rankOf a_byRank a_codeStart a_codeEnd a_codeOp a_codeDst a_codeMode a_codeX a_codeY a_values a_status a_result a_forks a_outCount a_output a_place k (nI i) := by
    intro e
    induction e with
    | zero =>
      intro i hi h k hk
      obtain ⟨m, rfl⟩ : ∃ m, k = m + 1 := ⟨k - 1, by omega⟩
      obtain rfl : V = i := by omega
      exact br_t (nI_le (by omega) (by omega)) (h1 h)
    | succ e ih =>
      intro i hi h k hk
      obtain ⟨m, rfl⟩ : ∃ m, k = m + 1 := ⟨k - 1, by omega⟩
      have e1 : (nI p * 8 + nI i).toNatClampNeg = p * 8 + i := by rw [ar_m8, nI_clamp (by omega)]
      have e2 : (16 + nI i).toNatClampNeg = 16 + i := by rw [ar_16, nI_clamp (by omega)]
      refine br_f (nI_ge (by omega) (by omega)) (And.intro (by rw [ar_m8]; exact vp_in_nI (by omega) (by omega)) (And.intro (by rw [ar_16]; exact vp_in_nI (by omega) (by omega)) (br_c (fun g => ?_) (fun g => ?_))))
      · rw [e1, e2] at g
        exact nm_r (ar_a1 i) (ih (i + 1) (by omega) (lt_s h g) m (by omega))
      · rw [e1, e2] at g
        exact h0 (fun z => g (z i (by omega)))
  exact ⟨V + 1, key V 0 (by omega) (fun v hv => by omega) _ (by omega)⟩
theorem xw_int63 {post : Int32 → SX → Prop} (hV : V ≤ 8) (hn : n < 32)
    (K : ∀ bf : Nat → Int32, (∀ v, v < V → bf (n * 8 + v) = a_values (16 + v)) → (∀ j, (j < n * 8 ∨ n * 8 + 8 ≤ j) → bf j = a_before j) → post (nI n) ((nI V), (nI B), (nI L), (nI Q), f_residualMachine, f_directMachine, f_work, f_opMove, f_opOut, f_countCap, f_cursorLabel, f_residual, (nI (n + 1)), f_codeSize, a_stmt, a_stmtCount, a_term, a_rom, a_initial, a_marked, a_uses, a_dist, a_ptLabel, a_ptKind, a_ptFirst, a_ptSecond, bf, a_after, a_exitOf, a_head, a_rankOf, a_byRank, a_codeStart, a_codeEnd, a_codeOp, a_codeDst, a_codeMode, a_codeX, a_codeY, a_values, a_status, a_result, a_forks, a_outCount, a_output, a_place)) :
    ∀ e i, i + e = V → ∀ bf : Nat → Int32, (∀ v, v < i → bf (n * 8 + v) = a_values (16 + v)) → (∀ j, (j < n * 8 ∨ n * 8 + 8 ≤ j) → bf j = a_before j) → ∀ k, e < k → wX_intern_63 post (nI n) (nI V) (nI B) (nI L) (nI Q) f_residualMachine f_directMachine f_work f_opMove f_opOut f_countCap f_cursorLabel f_residual (nI n) f_codeSize k (nI i) a_stmt a_stmtCount a_term a_rom a_initial a_marked a_uses a_dist a_ptLabel a_ptKind a_ptFirst a_ptSecond bf a_after a_exitOf a_head a_rankOf a_byRank a_codeStart a_codeEnd a_codeOp a_codeDst a_codeMode a_codeX a_codeY a_values a_status a_result a_forks a_outCount a_output a_place := by
  intro e
  induction e with
  | zero =>
    intro i hi bf h1 h2 k hk
    obtain ⟨m, rfl⟩ : ∃ m, k = m + 1 := ⟨k - 1, by omega⟩
    obtain rfl : V = i := by omega
    exact br_t (nI_le (by omega) (by omega)) (nm_r (ar_a1 n) (K bf h1 h2))
  | succ e ih =>
    intro i hi bf h1 h2 k hk
    obtain ⟨m, rfl⟩ : ∃ m, k = m + 1 := ⟨k - 1, by omega⟩
    refine br_f (nI_ge (by omega) (by omega)) (And.intro (by rw [ar_16]; exact vp_in_nI (by omega) (by omega)) (And.intro (by rw [ar_m8]; exact vp_in_nI (by omega) (by omega)) (nm_r (e' := upd bf (n * 8 + i) (a_values (16 + i))) (by rw [ar_16, ar_m8, nI_clamp (by omega), nI_clamp (by omega)]) (nm_r (ar_a1 i) (ih (i + 1) (by omega) _ (lt_s (fun v hv => ?_) pk_us) (fun j hj => ?_) m (by omega))))))
    · rw [pk_un (by omega)]; exact h1 v hv
    · rw [pk_un (by omega)]; exact h2 j hj
theorem xw_intern {post : Int32 → SX → Prop} {lab : Int32} (hV : V ≤ 8) (hn : n ≤ Q) (hQ : Q ≤ 32)
    (K : ∀ r n' pl' bf', pu_int V Q n a_ptLabel a_before lab (fun v => a_values (16 + v)) r n' pl' bf' → post r ((nI V), (nI B), (nI L), (nI Q), f_residualMachine, f_directMachine, f_work, f_opMove, f_opOut, f_countCap, f_cursorLabel, f_residual, (nI n'), f_codeSize, a_stmt, a_stmtCount, a_term, a_rom, a_initial, a_marked, a_uses, a_dist, pl', a_ptKind, a_ptFirst, a_ptSecond, bf', a_after, a_exitOf, a_head, a_rankOf, a_byRank, a_codeStart, a_codeEnd, a_codeOp, a_codeDst, a_codeMode, a_codeX, a_codeY, a_values, a_status, a_result, a_forks, a_outCount, a_output, a_place)) : wpX_intern post ((nI V), (nI B), (nI L), (nI Q), f_residualMachine, f_directMachine, f_work, f_opMove, f_opOut, f_countCap, f_cursorLabel, f_residual, (nI n), f_codeSize, a_stmt, a_stmtCount, a_term, a_rom, a_initial, a_marked, a_uses, a_dist, a_ptLabel, a_ptKind, a_ptFirst, a_ptSecond, a_before, a_after, a_exitOf, a_head, a_rankOf, a_byRank, a_codeStart, a_codeEnd, a_codeOp, a_codeDst, a_codeMode, a_codeX, a_codeY, a_values, a_status, a_result, a_forks, a_outCount, a_output, a_place) lab := by
  have key : ∀ e q, q + e = n → (∀ q', q' < q → ¬ pu_mt V a_ptLabel a_before q' lab (fun v => a_values (16 + v))) → ∀ k, e < k → wX_intern_2 post lab (nI V) (nI B) (nI L) (nI Q) f_residualMachine f_directMachine f_work f_opMove f_opOut f_countCap f_cursorLabel f_residual (nI n) f_codeSize a_stmt a_stmtCount a_term a_rom a_initial a_marked a_uses a_dist a_ptLabel a_ptKind a_ptFirst a_ptSecond a_before a_after a_exitOf a_head a_rankOf a_byRank a_codeStart a_codeEnd a_codeOp a_codeDst a_codeMode a_codeX a_codeY a_values a_status a_result a_forks a_outCount a_output a_place k (nI q) := by
    intro e
    induction e with
    | zero =>
      intro q hq hno k hk
      obtain ⟨m, rfl⟩ : ∃ m, k = m + 1 := ⟨k - 1, by omega⟩
      obtain rfl : q = n := by omega
      refine br_t (nI_le (by omega) (by omega)) (br_c (fun g => ?_) (fun g => ?_))
      · rw [nI_ltI (by omega) (by omega)] at g
        refine And.intro (vp_in_nI (by omega) (by omega)) (nm_r (e' := upd a_ptLabel q lab) (by rw [nI_clamp (by omega)]) ⟨V + 1, ?_⟩)
        exact xw_int63 hV (by omega) (fun bf h1 h2 => K _ _ _ _ (Or.inr (Or.inl ⟨hno, g, rfl, rfl, rfl, h1, h2⟩))) V 0 (by omega) a_before (fun v hv => by omega) (fun _ _ => rfl) _ (by omega)
      · rw [nI_ltI (by omega) (by omega)] at g
        exact K _ _ _ _ (Or.inr (Or.inr ⟨hno, g, rfl, rfl, rfl, rfl⟩))
    | succ e ih =>
      intro q hq hno k hk
      obtain ⟨m, rfl⟩ : ∃ m, k = m + 1 := ⟨k - 1, by omega⟩
      have ec : (nI q).toNatClampNeg = q := nI_clamp (by omega)
      refine br_f (nI_ge (by omega) (by omega)) (And.intro (vp_in_nI (by omega) (by omega)) (br_c (fun g => ?_) (fun g => ?_)))
      · rw [ec] at g
        refine xw_hasW hV (by omega) (fun y => ?_) (fun y => ?_)
        · exact br_f (by decide) (K _ _ _ _ (Or.inl ⟨q, by omega, rfl, ⟨g, y⟩, rfl, rfl, rfl⟩))
        · exact br_t rfl (nm_r (ar_a1 q) (ih (q + 1) (by omega) (lt_s hno (fun z => y z.2)) m (by omega)))
      · rw [ec] at g
        exact nm_r (ar_a1 q) (ih (q + 1) (by omega) (lt_s hno (fun z => g z.1)) m (by omega))
  exact ⟨n + 1, key n 0 (by omega) (fun q hq => by omega) _ (by omega)⟩
theorem xw_load {post : SX → Prop} {p : Nat} (hV : V ≤ 8) (hp : p < 32)
    (K : ∀ w : Nat → Int32, (∀ v, v < V → w (16 + v) = a_before (p * 8 + v)) → (∀ j, j < 16 → w j = a_values j) → post ((nI V), (nI B), (nI L), (nI Q), f_residualMachine, f_directMachine, f_work, f_opMove, f_opOut, f_countCap, f_cursorLabel, f_residual, f_found, f_codeSize, a_stmt, a_stmtCount, a_term, a_rom, a_initial, a_marked, a_uses, a_dist, a_ptLabel, a_ptKind, a_ptFirst, a_ptSecond, a_before, a_after, a_exitOf, a_head, a_rankOf, a_byRank, a_codeStart, a_codeEnd, a_codeOp, a_codeDst, a_codeMode, a_codeX, a_codeY, w, a_status, a_result, a_forks, a_outCount, a_output, a_place)) : wpX_loadWorkStore post ((nI V), (nI B), (nI L), (nI Q), f_residualMachine, f_directMachine, f_work, f_opMove, f_opOut, f_countCap, f_cursorLabel, f_residual, f_found, f_codeSize, a_stmt, a_stmtCount, a_term, a_rom, a_initial, a_marked, a_uses, a_dist, a_ptLabel, a_ptKind, a_ptFirst, a_ptSecond, a_before, a_after, a_exitOf, a_head, a_rankOf, a_byRank, a_codeStart, a_codeEnd, a_codeOp, a_codeDst, a_codeMode, a_codeX, a_codeY, a_values, a_status, a_result, a_forks, a_outCount, a_output, a_place) (nI p) := by
  have key : ∀ e i, i + e = V → ∀ w : Nat → Int32, (∀ v, v < i → w (16 + v) = a_before (p * 8 + v)) → (∀ j, j < 16 → w j = a_values j) → ∀ k, e < k → wX_loadWorkStore_2 post (nI p) (nI V) (nI B) (nI L) (nI Q) f_residualMachine f_directMachine f_work f_opMove f_opOut f_countCap f_cursorLabel f_residual f_found f_codeSize k (nI i) a_stmt a_stmtCount a_term a_rom a_initial a_marked a_uses a_dist a_ptLabel a_ptKind a_ptFirst a_ptSecond a_before a_after a_exitOf a_head a_rankOf a_byRank a_codeStart a_codeEnd a_codeOp a_codeDst a_codeMode a_codeX a_codeY w a_status a_result a_forks a_outCount a_output a_place := by
    intro e
    induction e with
    | zero =>
      intro i hi w h1 h2 k hk
      obtain ⟨m, rfl⟩ : ∃ m, k = m + 1 := ⟨k - 1, by omega⟩
      obtain rfl : V = i := by omega
      exact br_t (nI_le (by omega) (by omega)) (K w h1 h2)
    | succ e ih =>
      intro i hi w h1 h2 k hk
      obtain ⟨m, rfl⟩ : ∃ m, k = m + 1 := ⟨k - 1, by omega⟩
      refine br_f (nI_ge (by omega) (by omega)) (And.intro (by rw [ar_m8]; exact vp_in_nI (by omega) (by omega)) (And.intro (by rw [ar_16]; exact vp_in_nI (by omega) (by omega)) (nm_r (e' := upd w (16 + i) (a_before (p * 8 + i))) (by rw [ar_16, ar_m8, nI_clamp (by omega), nI_clamp (by omega)]) (nm_r (ar_a1 i) (ih (i + 1) (by omega) _ (lt_s (fun v hv => ?_) pk_us) (fun j hj => ?_) m (by omega))))))
      · rw [pk_un (by omega)]; exact h1 v hv
      · rw [pk_un (by omega)]; exact h2 j hj
  exact ⟨V + 1, key V 0 (by omega) a_values (fun v hv => by omega) (fun _ _ => rfl) _ (by omega)⟩
theorem xw_statics {post : SX → Prop} {l : Nat} (hs : pu_src V B L sz cd a_stmt a_stmtCount a_term) (hV : V ≤ 8) (hL : L ≤ 6) (hl : l < 16) (hD : ∀ v, v < V → (0 ≤ a_dist v ↔ D v = true))
    (K : ∀ w : Nat → Int32, (fun v => w (16 + v)) = pu_sn cd a_rom D l (fun v => a_values (16 + v)) (sz l) → (∀ j, j < 16 → w j = a_values j) → post ((nI V), (nI B), (nI L), (nI Q), f_residualMachine, f_directMachine, f_work, f_opMove, f_opOut, f_countCap, f_cursorLabel, f_residual, f_found, f_codeSize, a_stmt, a_stmtCount, a_term, a_rom, a_initial, a_marked, a_uses, a_dist, a_ptLabel, a_ptKind, a_ptFirst, a_ptSecond, a_before, a_after, a_exitOf, a_head, a_rankOf, a_byRank, a_codeStart, a_codeEnd, a_codeOp, a_codeDst, a_codeMode, a_codeX, a_codeY, w, a_status, a_result, a_forks, a_outCount, a_output, a_place)) : wpX_runStatics post ((nI V), (nI B), (nI L), (nI Q), f_residualMachine, f_directMachine, f_work, f_opMove, f_opOut, f_countCap, f_cursorLabel, f_residual, f_found, f_codeSize, a_stmt, a_stmtCount, a_term, a_rom, a_initial, a_marked, a_uses, a_dist, a_ptLabel, a_ptKind, a_ptFirst, a_ptSecond, a_before, a_after, a_exitOf, a_head, a_rankOf, a_byRank, a_codeStart, a_codeEnd, a_codeOp, a_codeDst, a_codeMode, a_codeX, a_codeY, a_values, a_status, a_result, a_forks, a_outCount, a_output, a_place) (nI l) := by
  have hz := Nat.le_trans (sr_sz hs hl) hL
  have ecl : a_stmtCount (nI l).toNatClampNeg = nI (sz l) := by rw [nI_clamp (by omega), sr_cnt hs hl]
  have il : vp_in (nI l) 16 := vp_in_nI hl (by omega)
  have key : ∀ e i, i + e = sz l → ∀ w : Nat → Int32, (fun v => w (16 + v)) = pu_sn cd a_rom D l (fun v => a_values (16 + v)) i → (∀ j, j < 16 → w j = a_values j) → ∀ n, e < n → wX_runStatics_2 post (nI l) n (nI i) (nI V) (nI B) (nI L) (nI Q) f_residualMachine f_directMachine f_work f_opMove f_opOut f_countCap f_cursorLabel f_residual f_found f_codeSize a_stmt a_stmtCount a_term a_rom a_initial a_marked a_uses a_dist a_ptLabel a_ptKind a_ptFirst a_ptSecond a_before a_after a_exitOf a_head a_rankOf a_byRank a_codeStart a_codeEnd a_codeOp a_codeDst a_codeMode a_codeX a_codeY w a_status a_result a_forks a_outCount a_output a_place := by
    intro e
    induction e with
    | zero =>
      intro i hi w hw hw2 n hn
      obtain ⟨m, rfl⟩ : ∃ m, n = m + 1 := ⟨n - 1, by omega⟩
      obtain rfl : i = sz l := by omega
      exact And.intro il (br_t (by rw [ecl]; exact nI_le (by omega) (by omega)) (K w hw hw2))
    | succ e ih =>
      intro i hi w hw hw2 n hn
      obtain ⟨m, rfl⟩ : ∃ m, n = m + 1 := ⟨n - 1, by omega⟩
      have nxt : ∀ w' : Nat → Int32, (fun v => w' (16 + v)) = pu_s1 cd a_rom D (l * 35 + i * 5) (fun v => w (16 + v)) → (∀ j, j < 16 → w' j = a_values j) → wX_runStatics_2 post (nI l) m (nI (i + 1)) (nI V) (nI B) (nI L) (nI Q) f_residualMachine f_directMachine f_work f_opMove f_opOut f_countCap f_cursorLabel f_residual f_found f_codeSize a_stmt a_stmtCount a_term a_rom a_initial a_marked a_uses a_dist a_ptLabel a_ptKind a_ptFirst a_ptSecond a_before a_after a_exitOf a_head a_rankOf a_byRank a_codeStart a_codeEnd a_codeOp a_codeDst a_codeMode a_codeX a_codeY w' a_status a_result a_forks a_outCount a_output a_place := by
        intro w' h1 h2
        refine ih (i + 1) (by omega) w' ?_ h2 m (by omega)
        show _ = pu_s1 cd a_rom D (l * 35 + i * 5) (pu_sn cd a_rom D l (fun v => a_values (16 + v)) i)
        rw [← hw]; exact h1
      refine And.intro il (br_f (by rw [ecl]; exact nI_ge (by omega) (by omega)) (nm_r (ar_st l i) ?_))
      generalize hk : (l * 6 + i) * 5 = k
      have E : ∀ f, f < 5 → a_stmt (k + f) = cd (l * 35 + i * 5 + f) := fun f hf => by rw [← hk]; exact sr_st hs f hl (by omega) hf
      have hk4 : k + 4 < 480 := by omega
      have E0 : a_stmt (nI k).toNatClampNeg = cd (l * 35 + i * 5) := by rw [nI_clamp (by omega)]; exact E 0 (by omega)
      refine And.intro (vp_in_nI (by omega) (by omega)) ?_
      rcases sr_row hs hl (show i < sz l by omega) with ⟨r1, ⟨d, hd, ed⟩, ro, r3, r4⟩ | ⟨r2, _⟩
      · have e1 : a_stmt (nI k + 1).toNatClampNeg = nI d := by rw [ar_a1, nI_clamp (by omega), E 1 (by omega), ed]
        have ecd : (nI d).toNatClampNeg = d := nI_clamp (by omega)
        refine br_t (by rw [E0]; exact r1) (And.intro (by rw [ar_a1]; exact vp_in_nI (by omega) (by omega)) (And.intro (by rw [e1]; exact vp_in_nI (by omega) (by omega)) (br_c (fun g => ?_) (fun g => ?_))))
        · rw [e1, ecd, hD d hd] at g
          refine nm_r (ar_a1 i) (nxt w ?_ hw2)
          unfold pu_s1
          rw [if_neg]
          rw [ed, ecd, g]
          exact fun z => absurd z.2 (by decide)
        · rw [e1, ecd, hD d hd, Bool.not_eq_true] at g
          refine xw_assignOn (b := 16) hV (by omega) hk4 E hd ed ro r3 r4 (nm_r (ar_a1 i) (nxt _ ?_ ?_))
          · unfold pu_s1
            rw [if_pos ⟨r1, by rw [ed, ecd]; exact g⟩]
            funext v
            rw [ed, ecd]
            by_cases z : v = d
            · subst z; rw [pk_us, pk_us]
            · rw [pk_un z, pk_un (by omega)]
          · intro j hj
            rw [pk_un (by omega)]; exact hw2 j hj
      · refine br_f (by rw [E0, r2]; decide) (nm_r (ar_a1 i) (nxt w ?_ hw2))
        unfold pu_s1
        rw [if_neg (fun z => absurd (r2.symm.trans z.1) (by decide))]
  exact ⟨sz l + 1, key (sz l) 0 (by omega) a_values rfl (fun _ _ => rfl) _ (by omega)⟩
theorem dyo_dy {o : Int32} (ho : pu_op V o) (hV : V ≤ 8) (hD : ∀ v, v < V → (0 ≤ a_dist v ↔ D v = true)) : pu_dy a_dist o = pu_dyo D o := by
  unfold pu_dyo
  rcases ho with a | ⟨j, hj, rfl⟩
  · rw [dy_neg a, decide_eq_false (ar_nle a), Bool.false_and]
  · rw [dy_var (by omega), decide_eq_true (nI_pos' (n := j) (by omega)), Bool.true_and, nI_clamp (by omega)]
    by_cases z : D j = true
    · rw [z, decide_eq_true ((hD j hj).mpr z)]
    · rw [Bool.eq_false_iff.mpr z, decide_eq_false (fun y => z ((hD j hj).mp y))]
/-- what expand leaves of a point's own cells -/
def pu_xp (V p : Nat) (kd : Int32) (st : Nat → Int32) (af pk af' pk' : Nat → Int32) : Prop :=
  (∀ v, v < V → af' (p * 8 + v) = st v) ∧ (∀ j, (j < p * 8 ∨ p * 8 + 8 ≤ j) → af' j = af j) ∧ pk' p = kd ∧ ∀ j, j ≠ p → pk' j = pk j
theorem xw_exp19 {post : Int32 → SX → Prop} {p l : Nat} {st : Nat → Int32} (hs : pu_src V B L sz cd a_stmt a_stmtCount a_term) (hV : V ≤ 8) (hL : L ≤ 6) (hl : l < 16) (hB : B ≤ 16) (hp : p < n) (hn : n ≤ Q) (hQ : Q ≤ 32)
    (hD : ∀ v, v < V → (0 ≤ a_dist v ↔ D v = true)) (hst : ∀ v, v < V → a_values (16 + v) = st v)
    (K0 : pu_tl cd sz D l st false < 0 → ∀ af pk, pu_xp V p (pu_kd cd sz D l) st a_after a_ptKind af pk → post 1 ((nI V), (nI B), (nI L), (nI Q), f_residualMachine, f_directMachine, f_work, f_opMove, f_opOut, f_countCap, f_cursorLabel, f_residual, (nI n), f_codeSize, a_stmt, a_stmtCount, a_term, a_rom, a_initial, a_marked, a_uses, a_dist, a_ptLabel, pk, (upd a_ptFirst p (-1)), (upd a_ptSecond p (-1)), a_before, af, a_exitOf, a_head, a_rankOf, a_byRank, a_codeStart, a_codeEnd, a_codeOp, a_codeDst, a_codeMode, a_codeX, a_codeY, a_values, a_status, a_result, a_forks, a_outCount, a_output, a_place))
    (K1 : pu_kd cd sz D l = 3 → ∀ af pk, pu_xp V p (pu_kd cd sz D l) st a_after a_ptKind af pk → ∀ r n' pl' bf', pu_int V Q n a_ptLabel a_before (pu_tl cd sz D l st false) (fun v => a_values (16 + v)) r n' pl' bf' →
      post (if r < 0 then 0 else 1) ((nI V), (nI B), (nI L), (nI Q), f_residualMachine, f_directMachine, f_work, f_opMove, f_opOut, f_countCap, f_cursorLabel, f_residual, (nI n'), f_codeSize, a_stmt, a_stmtCount, a_term, a_rom, a_initial, a_marked, a_uses, a_dist, pl', pk, (upd a_ptFirst p r), (upd a_ptSecond p (-1)), bf', af, a_exitOf, a_head, a_rankOf, a_byRank, a_codeStart, a_codeEnd, a_codeOp, a_codeDst, a_codeMode, a_codeX, a_codeY, a_values, a_status, a_result, a_forks, a_outCount, a_output, a_place))
    (K2 : pu_kd cd sz D l = 4 → ∀ af pk, pu_xp V p (pu_kd cd sz D l) st a_after a_ptKind af pk → ∀ r n' pl' bf', pu_int V Q n a_ptLabel a_before (pu_tl cd sz D l st false) (fun v => a_values (16 + v)) r n' pl' bf' →
      ∀ r2 n2 pl2 bf2, pu_int V Q n' pl' bf' (pu_tl cd sz D l st true) (fun v => a_values (16 + v)) r2 n2 pl2 bf2 →
      post (if r < 0 then 0 else if r2 < 0 then 0 else 1) ((nI V), (nI B), (nI L), (nI Q), f_residualMachine, f_directMachine, f_work, f_opMove, f_opOut, f_countCap, f_cursorLabel, f_residual, (nI n2), f_codeSize, a_stmt, a_stmtCount, a_term, a_rom, a_initial, a_marked, a_uses, a_dist, pl2, pk, (upd a_ptFirst p r), (upd a_ptSecond p r2), bf2, af, a_exitOf, a_head, a_rankOf, a_byRank, a_codeStart, a_codeEnd, a_codeOp, a_codeDst, a_codeMode, a_codeX, a_codeY, a_values, a_status, a_result, a_forks, a_outCount, a_output, a_place)) :
    ∀ e i, i + e = V → ∀ af : Nat → Int32, (∀ v, v < i → af (p * 8 + v) = st v) → (∀ j, (j < p * 8 ∨ p * 8 + 8 ≤ j) → af j = a_after j) → ∀ k, e < k → wX_expand_19 post (nI p) (nI l) (nI V) (nI B) (nI L) (nI Q) f_residualMachine f_directMachine f_work f_opMove f_opOut f_countCap f_cursorLabel f_residual (nI n) f_codeSize k (nI i) a_stmt a_stmtCount a_term a_rom a_initial a_marked a_uses a_dist a_ptLabel a_ptKind a_ptFirst a_ptSecond a_before af a_exitOf a_head a_rankOf a_byRank a_codeStart a_codeEnd a_codeOp a_codeDst a_codeMode a_codeX a_codeY a_values a_status a_result a_forks a_outCount a_output a_place := by
  have ip : vp_in (nI p) 32 := vp_in_nI (by omega) (by omega)
  have ep : (nI p).toNatClampNeg = p := nI_clamp (by omega)
  have uu : ∀ (a : Nat → Int32) x y, upd (upd a p x) p y = upd a p y := by
    intro a x y
    funext j
    by_cases z : j = p
    · rw [z, pk_us, pk_us]
    · rw [pk_un z, pk_un z, pk_un z]
  have hni : ∀ {n' pl bf lab s r n2 pl2 bf2}, n' ≤ Q → pu_int V Q n' pl bf lab s r n2 pl2 bf2 → n2 ≤ Q := by
    intro n' pl bf lab s r n2 pl2 bf2 h1 h2
    rcases h2 with ⟨q, _, _, _, e, _⟩ | ⟨_, h, _, e, _⟩ | ⟨_, _, _, e, _⟩ <;> omega
  intro e
  induction e with
  | zero =>
    intro i hi af h1 h2 k hk
    obtain ⟨m, rfl⟩ : ∃ m, k = m + 1 := ⟨k - 1, by omega⟩
    obtain rfl : V = i := by omega
    refine br_t (nI_le (by omega) (by omega)) (nm_r (ar_m5 l) ?_)
    have T0 : a_term (nI (l * 5)).toNatClampNeg = cd (l * 35 + sz l * 5) := by rw [nI_clamp (by omega)]; exact sr_tm hs 0 hl (by omega)
    have T1 : a_term (nI (l * 5) + 1).toNatClampNeg = cd (l * 35 + sz l * 5 + 1) := by rw [ar_a1, nI_clamp (by omega)]; exact sr_tm hs 1 hl (by omega)
    have T2 : a_term (nI (l * 5) + 2).toNatClampNeg = cd (l * 35 + sz l * 5 + 2) := by rw [ar_a2, nI_clamp (by omega)]; exact sr_tm hs 2 hl (by omega)
    have T3 : a_term (nI (l * 5) + 3).toNatClampNeg = cd (l * 35 + sz l * 5 + 3) := by rw [ar_a3, nI_clamp (by omega)]; exact sr_tm hs 3 hl (by omega)
    have i1 : vp_in (nI (l * 5) + 1) 80 := by rw [ar_a1]; exact vp_in_nI (by omega) (by omega)
    have i2 : vp_in (nI (l * 5) + 2) 80 := by rw [ar_a2]; exact vp_in_nI (by omega) (by omega)
    have i3 : vp_in (nI (l * 5) + 3) 80 := by rw [ar_a3]; exact vp_in_nI (by omega) (by omega)
    have eF : upd a_ptFirst (nI p).toNatClampNeg (-1) = upd a_ptFirst p (-1) := by rw [ep]
    have eS : upd a_ptSecond (nI p).toNatClampNeg (-1) = upd a_ptSecond p (-1) := by rw [ep]
    refine And.intro (vp_in_nI (by omega) (by omega)) (nm_r T0 (And.intro ip (nm_r (e' := upd a_ptKind p (cd (l * 35 + sz l * 5))) (by rw [ep]) (And.intro ip (nm_r eF (And.intro ip (nm_r eS ?_)))))))
    rcases kd_cases (D := D) hs hl with ⟨k0, t0⟩ | ⟨k3, t3, _⟩ | ⟨k3, t4, to, td, _, _⟩ | ⟨k4, t4, to, td, _, _⟩ | ⟨k5, t5, _⟩
    · refine br_f (by rw [t0]; decide) (br_f (by rw [t0]; decide) (K0 ?_ _ _ ⟨h1, h2, ?_, fun j hj => pk_un hj⟩))
      · unfold pu_tl; rw [k0, if_neg (by decide), if_neg (fun z => absurd z.1 (by decide))]; decide
      · rw [pk_us, k0, t0]
    · have et : pu_tl cd sz D l st false = cd (l * 35 + sz l * 5 + 1) := by unfold pu_tl; rw [k3, if_neg (by decide), if_pos ⟨rfl, rfl⟩, if_pos t3]
      have K1 := K1 k3 af (upd a_ptKind p (cd (l * 35 + sz l * 5))) ⟨h1, h2, by rw [pk_us, k3, t3], fun j hj => pk_un hj⟩
      rw [et] at K1
      refine br_t t3 (And.intro i1 ?_)
      rw [T1]
      refine xw_intern hV hn hQ (fun r n' pl' bf' hi => And.intro ip (nm_r (e' := upd a_ptFirst p r) (by rw [ep, uu]) (And.intro ip (br_c (fun g => ?_) (fun g => ?_)))))
      · rw [ep, pk_us] at g
        have := K1 r n' pl' bf' hi
        rw [if_pos g] at this; exact this
      · rw [ep, pk_us] at g
        have := K1 r n' pl' bf' hi
        rw [if_neg g] at this; exact this
    · have K1 := K1 k3 af (upd a_ptKind p 3) ⟨h1, h2, by rw [pk_us, k3], fun j hj => pk_un hj⟩
      have eov : pu_ov (fun v => a_values (16 + v)) (cd (l * 35 + sz l * 5 + 1)) = pu_ov st (cd (l * 35 + sz l * 5 + 1)) := ov_ext hV to hst
      have fin : ∀ lab : Int32, pu_tl cd sz D l st false = lab → wX_expand_250 post (nI p) lab (nI V) (nI B) (nI L) (nI Q) f_residualMachine f_directMachine f_work f_opMove f_opOut f_countCap f_cursorLabel f_residual (nI n) f_codeSize a_stmt a_stmtCount a_term a_rom a_initial a_marked a_uses a_dist a_ptLabel (upd a_ptKind p 3) (upd a_ptFirst p (-1)) (upd a_ptSecond p (-1)) a_before af a_exitOf a_head a_rankOf a_byRank a_codeStart a_codeEnd a_codeOp a_codeDst a_codeMode a_codeX a_codeY a_values a_status a_result a_forks a_outCount a_output a_place := by
        intro lab el
        rw [el] at K1
        refine xw_intern hV hn hQ (fun r n' pl' bf' hi => And.intro ip (nm_r (e' := upd a_ptFirst p r) (by rw [ep, uu]) (And.intro ip (br_c (fun g => ?_) (fun g => ?_)))))
        · rw [ep, pk_us] at g
          have := K1 r n' pl' bf' hi
          rw [if_pos g] at this; exact this
        · rw [ep, pk_us] at g
          have := K1 r n' pl' bf' hi
          rw [if_neg g] at this; exact this
      refine br_f (by rw [t4]; decide) (br_t t4 (And.intro i1 (nm_r T1 (xw_isDyn rfl hV to (fun g => ?_) (fun g => ?_)))))
      · rw [dyo_dy to hV hD, td] at g; exact absurd g (by decide)
      · refine br_t rfl (And.intro ip (nm_r (e' := upd a_ptKind p 3) (by rw [ep, uu]) (xw_operand (b := 16) rfl hV (by omega) to ?_)))
        rw [eov]
        refine br_c (fun y => And.intro i3 ?_) (fun y => And.intro i2 ?_)
        · rw [T3]
          exact fin _ (by unfold pu_tl; rw [k3, if_neg (by decide), if_pos ⟨rfl, rfl⟩, if_neg (by rw [t4]; decide), if_pos y])
        · rw [T2]
          exact fin _ (by unfold pu_tl; rw [k3, if_neg (by decide), if_pos ⟨rfl, rfl⟩, if_neg (by rw [t4]; decide), if_neg y])
    · have K2 := K2 k4 af (upd a_ptKind p (cd (l * 35 + sz l * 5))) ⟨h1, h2, by rw [pk_us, k4, t4], fun j hj => pk_un hj⟩
      have et1 : pu_tl cd sz D l st false = cd (l * 35 + sz l * 5 + 2) := by unfold pu_tl; rw [k4, if_pos rfl, if_neg (by decide)]
      have et2 : pu_tl cd sz D l st true = cd (l * 35 + sz l * 5 + 3) := by unfold pu_tl; rw [k4, if_pos rfl, if_pos rfl]
      rw [et1, et2] at K2
      refine br_f (by rw [t4]; decide) (br_t t4 (And.intro i1 (nm_r T1 (xw_isDyn rfl hV to (fun g => ?_) (fun g => ?_)))))
      · refine br_f (by decide) (And.intro i2 ?_)
        rw [T2]
        refine xw_intern hV hn hQ (fun r n' pl' bf' hi => And.intro ip (nm_r (e' := upd a_ptFirst p r) (by rw [ep, uu]) (And.intro i3 ?_)))
        rw [T3]
        refine xw_intern hV (hni hn hi) hQ (fun r2 n2 pl2 bf2 hi2 => And.intro ip (nm_r (e' := upd a_ptSecond p r2) (by rw [ep, uu]) (And.intro ip (br_c (fun g1 => ?_) (fun g1 => ?_)))))
        · rw [ep, pk_us] at g1
          have := K2 r n' pl' bf' hi r2 n2 pl2 bf2 hi2
          rw [if_pos g1] at this; exact this
        · rw [ep, pk_us] at g1
          refine And.intro ip (br_c (fun g2 => ?_) (fun g2 => ?_))
          · rw [ep, pk_us] at g2
            have := K2 r n' pl' bf' hi r2 n2 pl2 bf2 hi2
            rw [if_neg g1, if_pos g2] at this; exact this
          · rw [ep, pk_us] at g2
            have := K2 r n' pl' bf' hi r2 n2 pl2 bf2 hi2
            rw [if_neg g1, if_neg g2] at this; exact this
      · rw [dyo_dy to hV hD, td] at g; exact absurd g (by decide)
    · refine br_f (by rw [t5]; decide) (br_f (by rw [t5]; decide) (K0 ?_ _ _ ⟨h1, h2, ?_, fun j hj => pk_un hj⟩))
      · unfold pu_tl; rw [k5, if_neg (by decide), if_neg (fun z => absurd z.1 (by decide))]; decide
      · rw [pk_us, k5, t5]
  | succ e ih =>
    intro i hi af h1 h2 k hk
    obtain ⟨m, rfl⟩ : ∃ m, k = m + 1 := ⟨k - 1, by omega⟩
    refine br_f (nI_ge (by omega) (by omega)) (And.intro (by rw [ar_16]; exact vp_in_nI (by omega) (by omega)) (And.intro (by rw [ar_m8]; exact vp_in_nI (by omega) (by omega)) (nm_r (e' := upd af (p * 8 + i) (st i)) (by rw [ar_16, ar_m8, nI_clamp (by omega), nI_clamp (by omega), hst i (by omega)]) (nm_r (ar_a1 i) (ih (i + 1) (by omega) _ (lt_s (fun v hv => ?_) pk_us) (fun j hj => ?_) m (by omega))))))
    · rw [pk_un (by omega)]; exact h1 v hv
    · rw [pk_un (by omega)]; exact h2 j hj
end
end
section
section
variable {V B L Q n : Nat} {f_residualMachine f_directMachine f_work f_opMove f_opOut f_countCap f_cursorLabel f_residual f_found f_codeSize : Int32} {a_stmt a_stmtCount a_term a_rom a_initial a_marked a_uses a_dist a_ptLabel a_ptKind a_ptFirst a_ptSecond a_before a_after a_exitOf a_head a_rankOf a_byRank a_codeStart a_codeEnd a_codeOp a_codeDst a_codeMode a_codeX a_codeY a_values a_status a_result a_forks a_outCount a_output a_place : Nat → Int32} {sz : Nat → Nat} {cd pl pv : Nat → Int32} {D : Nat → Bool}
theorem xw_expand {post : Int32 → SX → Prop} {p : Nat} (hs : pu_src V B L sz cd a_stmt a_stmtCount a_term) (hV : V ≤ 8) (hL : L ≤ 6) (hB : B ≤ 16) (hp : p < n) (hn : n ≤ Q) (hQ : Q ≤ 32)
    (hD : ∀ v, v < V → (0 ≤ a_dist v ↔ D v = true)) (hpt : pu_pt V B n D pl pv) (hl : a_ptLabel p = pl p) (hb : ∀ v, v < V → a_before (p * 8 + v) = pv (p * 8 + v))
    (K0 : pu_tl cd sz D (pl p).toNatClampNeg (pu_sb cd a_rom sz D pl pv p) false < 0 → ∀ w, (∀ j, j < 16 → w j = a_values j) → ∀ af pk, pu_xp V p (pu_kd cd sz D (pl p).toNatClampNeg) (pu_sb cd a_rom sz D pl pv p) a_after a_ptKind af pk → post 1 ((nI V), (nI B), (nI L), (nI Q), f_residualMachine, f_directMachine, f_work, f_opMove, f_opOut, f_countCap, f_cursorLabel, f_residual, (nI n), f_codeSize, a_stmt, a_stmtCount, a_term, a_rom, a_initial, a_marked, a_uses, a_dist, a_ptLabel, pk, (upd a_ptFirst p (-1)), (upd a_ptSecond p (-1)), a_before, af, a_exitOf, a_head, a_rankOf, a_byRank, a_codeStart, a_codeEnd, a_codeOp, a_codeDst, a_codeMode, a_codeX, a_codeY, w, a_status, a_result, a_forks, a_outCount, a_output, a_place))
    (K1 : pu_kd cd sz D (pl p).toNatClampNeg = 3 → ∀ w, (∀ j, j < 16 → w j = a_values j) → (∀ v, v < V → w (16 + v) = pu_sb cd a_rom sz D pl pv p v) → ∀ af pk, pu_xp V p (pu_kd cd sz D (pl p).toNatClampNeg) (pu_sb cd a_rom sz D pl pv p) a_after a_ptKind af pk →
      ∀ r n' pl' bf', pu_int V Q n a_ptLabel a_before (pu_tl cd sz D (pl p).toNatClampNeg (pu_sb cd a_rom sz D pl pv p) false) (fun v => w (16 + v)) r n' pl' bf' →
      post (if r < 0 then 0 else 1) ((nI V), (nI B), (nI L), (nI Q), f_residualMachine, f_directMachine, f_work, f_opMove, f_opOut, f_countCap, f_cursorLabel, f_residual, (nI n'), f_codeSize, a_stmt, a_stmtCount, a_term, a_rom, a_initial, a_marked, a_uses, a_dist, pl', pk, (upd a_ptFirst p r), (upd a_ptSecond p (-1)), bf', af, a_exitOf, a_head, a_rankOf, a_byRank, a_codeStart, a_codeEnd, a_codeOp, a_codeDst, a_codeMode, a_codeX, a_codeY, w, a_status, a_result, a_forks, a_outCount, a_output, a_place))
    (K2 : pu_kd cd sz D (pl p).toNatClampNeg = 4 → ∀ w, (∀ j, j < 16 → w j = a_values j) → (∀ v, v < V → w (16 + v) = pu_sb cd a_rom sz D pl pv p v) → ∀ af pk, pu_xp V p (pu_kd cd sz D (pl p).toNatClampNeg) (pu_sb cd a_rom sz D pl pv p) a_after a_ptKind af pk →
      ∀ r n' pl' bf', pu_int V Q n a_ptLabel a_before (pu_tl cd sz D (pl p).toNatClampNeg (pu_sb cd a_rom sz D pl pv p) false) (fun v => w (16 + v)) r n' pl' bf' →
      ∀ r2 n2 pl2 bf2, pu_int V Q n' pl' bf' (pu_tl cd sz D (pl p).toNatClampNeg (pu_sb cd a_rom sz D pl pv p) true) (fun v => w (16 + v)) r2 n2 pl2 bf2 →
      post (if r < 0 then 0 else if r2 < 0 then 0 else 1) ((nI V), (nI B), (nI L), (nI Q), f_residualMachine, f_directMachine, f_work, f_opMove, f_opOut, f_countCap, f_cursorLabel, f_residual, (nI n2), f_codeSize, a_stmt, a_stmtCount, a_term, a_rom, a_initial, a_marked, a_uses, a_dist, pl2, pk, (upd a_ptFirst p r), (upd a_ptSecond p r2), bf2, af, a_exitOf, a_head, a_rankOf, a_byRank, a_codeStart, a_codeEnd, a_codeOp, a_codeDst, a_codeMode, a_codeX, a_codeY, w, a_status, a_result, a_forks, a_outCount, a_output, a_place)) :
    wpX_expand post ((nI V), (nI B), (nI L), (nI Q), f_residualMachine, f_directMachine, f_work, f_opMove, f_opOut, f_countCap, f_cursorLabel, f_residual, (nI n), f_codeSize, a_stmt, a_stmtCount, a_term, a_rom, a_initial, a_marked, a_uses, a_dist, a_ptLabel, a_ptKind, a_ptFirst, a_ptSecond, a_before, a_after, a_exitOf, a_head, a_rankOf, a_byRank, a_codeStart, a_codeEnd, a_codeOp, a_codeDst, a_codeMode, a_codeX, a_codeY, a_values, a_status, a_result, a_forks, a_outCount, a_output, a_place) (nI p) := by
  obtain ⟨l, hlB, el⟩ := hpt.1 p hp
  have ecl : (nI l).toNatClampNeg = l := nI_clamp (by omega)
  have hsb : ∀ w : Nat → Int32, (∀ v, v < V → w (16 + v) = a_before (p * 8 + v)) → ∀ v, v < V → pu_sn cd a_rom D l (fun v => w (16 + v)) (sz l) v = pu_sb cd a_rom sz D pl pv p v := by
    intro w hw v hv
    unfold pu_sb
    rw [el, ecl]
    exact sn_ext (Nat.le_refl _) hV (fun v hv => (hw v hv).trans ((hb v hv).trans (s0_at (by omega)).symm)) (sz l) (fun j hj => sr_row hs (by omega) hj) v hv
  refine And.intro (vp_in_nI (by omega) (by omega)) (nm_r (e' := nI l) (by rw [nI_clamp (by omega), hl, el]) ?_)
  refine xw_load hV (by omega) (fun w1 h1 h2 => xw_statics hs hV hL (show l < 16 by omega) hD (fun w2 h3 h4 => ?_))
  have hst : ∀ v, v < V → w2 (16 + v) = pu_sb cd a_rom sz D pl pv p v := by
    intro v hv
    rw [show w2 (16 + v) = (fun v => w2 (16 + v)) v from rfl, h3]
    exact hsb w1 h1 v hv
  have hlow : ∀ j, j < 16 → w2 j = a_values j := fun j hj => (h4 j hj).trans (h2 j hj)
  rw [el, ecl] at K0 K1 K2
  exact ⟨V + 1, xw_exp19 hs hV hL (show l < 16 by omega) hB hp hn hQ hD hst (fun a => K0 a w2 hlow) (fun a => K1 a w2 hlow hst) (fun a => K2 a w2 hlow hst) V 0 (by omega) a_after (fun v hv => by omega) (fun _ _ => rfl) _ (by omega)⟩
/-! the order -/
theorem xw_below {post : Int32 → Prop} {p q : Nat} (hn : n ≤ 32) (hV : V ≤ 8) (hp : p < n) (hq : q < n) (hl : ∀ p, p < n → a_ptLabel p = pl p) (hb : ∀ p v, p < n → v < V → a_before (p * 8 + v) = pv (p * 8 + v))
    (h1 : pu_ls V pl pv p q = true → post 1) (h0 : pu_ls V pl pv p q = false → post 0) : wpX_isBelow post ((nI V), (nI B), (nI L), (nI Q), f_residualMachine, f_directMachine, f_work, f_opMove, f_opOut, f_countCap, f_cursorLabel, f_residual, f_found, f_codeSize, a_stmt, a_stmtCount, a_term, a_rom, a_initial, a_marked, a_uses, a_dist, a_ptLabel, a_ptKind, a_ptFirst, a_ptSecond, a_before, a_after, a_exitOf, a_head, a_rankOf, a_byRank, a_codeStart, a_codeEnd, a_codeOp, a_codeDst, a_codeMode, a_codeX, a_codeY, a_values, a_status, a_result, a_forks, a_outCount, a_output, a_place) (nI p) (nI q) := by
  have ip : vp_in (nI p) 32 := vp_in_nI (by omega) (by omega)
  have iq : vp_in (nI q) 32 := vp_in_nI (by omega) (by omega)
  have ep : (nI p).toNatClampNeg = p := nI_clamp (by omega)
  have eq : (nI q).toNatClampNeg = q := nI_clamp (by omega)
  have key : ∀ e i, i + e = V → (pu_lx pv p q e i = true → post 1) → (pu_lx pv p q e i = false → post 0) → ∀ k, e < k → wX_isBelow_38 post (nI p) (nI q) (nI V) (nI B) (nI L) (nI Q) f_residualMachine f_directMachine f_work f_opMove f_opOut f_countCap f_cursorLabel f_residual f_found f_codeSize a_stmt a_stmtCount a_term a_rom a_initial a_marked a_uses a_dist a_ptLabel a_ptKind a_ptFirst a_ptSecond a_before a_after a_exitOf a_head a_rankOf a_byRank a_codeStart a_codeEnd a_codeOp a_codeDst a_codeMode a_codeX a_codeY a_values a_status a_result a_forks a_outCount a_output a_place k (nI i) := by
    intro e
    induction e with
    | zero =>
      intro i hi h1 h0 k hk
      obtain ⟨m, rfl⟩ : ∃ m, k = m + 1 := ⟨k - 1, by omega⟩
      exact br_t (nI_le (by omega) (by omega)) (h0 rfl)
    | succ e ih =>
      intro i hi h1 h0 k hk
      obtain ⟨m, rfl⟩ : ∃ m, k = m + 1 := ⟨k - 1, by omega⟩
      have i1 : vp_in (nI p * 8 + nI i) 256 := by rw [ar_m8]; exact vp_in_nI (by omega) (by omega)
      have i2 : vp_in (nI q * 8 + nI i) 256 := by rw [ar_m8]; exact vp_in_nI (by omega) (by omega)
      unfold pu_lx at h1 h0
      refine br_f (nI_ge (by omega) (by omega)) (And.intro i1 (nm_r (e' := pv (p * 8 + i)) (by rw [ar_m8, nI_clamp (by omega), hb p i hp (by omega)]) (And.intro i2 (nm_r (e' := pv (q * 8 + i)) (by rw [ar_m8, nI_clamp (by omega), hb q i hq (by omega)]) (br_c (fun g => ?_) (fun g => ?_))))))
      · rw [if_pos g] at h1 h0
        exact nm_r (ar_a1 i) (ih (i + 1) (by omega) h1 h0 m (by omega))
      · rw [if_neg g] at h1 h0
        exact br_c (fun y => h0 (decide_eq_false (ar_nlt y))) (fun y => h1 (decide_eq_true (ar_le y)))
  unfold pu_ls at h1 h0
  refine And.intro ip (And.intro iq (br_c (fun g => ?_) (fun g => ?_)))
  · rw [ep, eq, hl p hp, hl q hq] at g
    rw [if_pos g] at h1 h0
    exact ⟨V + 1, key V 0 (by omega) h1 h0 _ (by omega)⟩
  · rw [ep, eq, hl p hp, hl q hq] at g
    rw [if_neg g] at h1 h0
    refine And.intro ip (And.intro iq (br_c (fun y => ?_) (fun y => ?_)))
    · rw [ep, eq, hl p hp, hl q hq] at y; exact h0 (decide_eq_false (ar_nlt y))
    · rw [ep, eq, hl p hp, hl q hq] at y; exact h1 (decide_eq_true (ar_le y))
theorem xw_rank14 {post : SX → Prop} {J : Int32 → (Nat → Int32) → (Nat → Int32) → (Nat → Int32) → (Nat → Int32) → (Nat → Int32) → (Nat → Int32) → (Nat → Int32) → (Nat → Int32) → (Nat → Int32) → (Nat → Int32) → (Nat → Int32) → (Nat → Int32) → (Nat → Int32) → (Nat → Int32) → (Nat → Int32) → (Nat → Int32) → (Nat → Int32) → (Nat → Int32) → (Nat → Int32) → (Nat → Int32) → (Nat → Int32) → (Nat → Int32) → (Nat → Int32) → (Nat → Int32) → (Nat → Int32) → (Nat → Int32) → (Nat → Int32) → (Nat → Int32) → (Nat → Int32) → (Nat → Int32) → (Nat → Int32) → (Nat → Int32) → Prop} {p : Nat} (hn : n ≤ 32) (hV : V ≤ 8) (hp : p < n) (hl : ∀ p, p < n → a_ptLabel p = pl p) (hb : ∀ p v, p < n → v < V → a_before (p * 8 + v) = pv (p * 8 + v))
    (K : J (nI (p + 1)) a_stmt a_stmtCount a_term a_rom a_initial a_marked a_uses a_dist a_ptLabel a_ptKind a_ptFirst a_ptSecond a_before a_after a_exitOf a_head (upd a_rankOf p (nI (pu_rk V n pl pv p))) (upd a_byRank (pu_rk V n pl pv p) (nI p)) a_codeStart a_codeEnd a_codeOp a_codeDst a_codeMode a_codeX a_codeY a_values a_status a_result a_forks a_outCount a_output a_place) :
    ∀ e q, q + e = n → ∀ k, e < k → wX_rankPoints_14 post J (nI p) (nI V) (nI B) (nI L) (nI Q) f_residualMachine f_directMachine f_work f_opMove f_opOut f_countCap f_cursorLabel f_residual (nI n) f_codeSize a_stmt a_stmtCount a_term a_rom a_initial a_marked a_uses a_dist a_ptLabel a_ptKind a_ptFirst a_ptSecond a_before a_after a_exitOf a_head a_rankOf a_byRank a_codeStart a_codeEnd a_codeOp a_codeDst a_codeMode a_codeX a_codeY a_values a_status a_result a_forks a_outCount a_output a_place k (nI (pu_cn (fun q => pu_ls V pl pv q p) q)) (nI q) := by
  intro e
  induction e with
  | zero =>
    intro q hq k hk
    obtain ⟨m, rfl⟩ : ∃ m, k = m + 1 := ⟨k - 1, by omega⟩
    obtain rfl : q = n := by omega
    have hb := rk_bd (V := V) (pl := pl) (pv := pv) hp
    unfold pu_rk at K hb
    exact br_t (nI_le (by omega) (by omega)) (And.intro (vp_in_nI (by omega) (by omega)) (nm_r (e' := upd a_rankOf p (nI (pu_cn (fun q => pu_ls V pl pv q p) q))) (by rw [nI_clamp (by omega)]) (And.intro (vp_in_nI (by omega) (by omega)) (nm_r (e' := upd a_byRank (pu_cn (fun q => pu_ls V pl pv q p) q) (nI p)) (by rw [nI_clamp (by omega)]) (nm_r (ar_a1 p) K)))))
  | succ e ih =>
    intro q hq k hk
    obtain ⟨m, rfl⟩ : ∃ m, k = m + 1 := ⟨k - 1, by omega⟩
    have ih := ih (q + 1) (by omega) m (by omega)
    unfold pu_cn at ih
    refine br_f (nI_ge (by omega) (by omega)) (xw_below hn hV (by omega) hp hl hb (fun g => ?_) (fun g => ?_))
    · rw [if_pos g] at ih
      exact br_f (by decide) (nm_r (ar_a1 _) (nm_r (ar_a1 q) ih))
    · rw [if_neg (by rw [g]; decide)] at ih
      exact br_t rfl (nm_r (ar_a1 q) ih)
theorem xw_rank {post : SX → Prop} (hn : n ≤ 32) (hV : V ≤ 8) (hpt : pu_pt V B n D pl pv) (hl : ∀ p, p < n → a_ptLabel p = pl p) (hb : ∀ p v, p < n → v < V → a_before (p * 8 + v) = pv (p * 8 + v))
    (K : ∀ ro br : Nat → Int32, (∀ p, p < n → ro p = nI (pu_rk V n pl pv p)) → (∀ p, p < n → br (pu_rk V n pl pv p) = nI p) → post ((nI V), (nI B), (nI L), (nI Q), f_residualMachine, f_directMachine, f_work, f_opMove, f_opOut, f_countCap, f_cursorLabel, f_residual, (nI n), f_codeSize, a_stmt, a_stmtCount, a_term, a_rom, a_initial, a_marked, a_uses, a_dist, a_ptLabel, a_ptKind, a_ptFirst, a_ptSecond, a_before, a_after, a_exitOf, a_head, ro, br, a_codeStart, a_codeEnd, a_codeOp, a_codeDst, a_codeMode, a_codeX, a_codeY, a_values, a_status, a_result, a_forks, a_outCount, a_output, a_place)) : wpX_rankPoints post ((nI V), (nI B), (nI L), (nI Q), f_residualMachine, f_directMachine, f_work, f_opMove, f_opOut, f_countCap, f_cursorLabel, f_residual, (nI n), f_codeSize, a_stmt, a_stmtCount, a_term, a_rom, a_initial, a_marked, a_uses, a_dist, a_ptLabel, a_ptKind, a_ptFirst, a_ptSecond, a_before, a_after, a_exitOf, a_head, a_rankOf, a_byRank, a_codeStart, a_codeEnd, a_codeOp, a_codeDst, a_codeMode, a_codeX, a_codeY, a_values, a_status, a_result, a_forks, a_outCount, a_output, a_place) := by
  have key : ∀ e p, p + e = n → ∀ ro br : Nat → Int32, (∀ q, q < p → ro q = nI (pu_rk V n pl pv q)) → (∀ q, q < p → br (pu_rk V n pl pv q) = nI q) → ∀ k, e < k → wX_rankPoints_2 post (nI V) (nI B) (nI L) (nI Q) f_residualMachine f_directMachine f_work f_opMove f_opOut f_countCap f_cursorLabel f_residual (nI n) f_codeSize k (nI p) a_stmt a_stmtCount a_term a_rom a_initial a_marked a_uses a_dist a_ptLabel a_ptKind a_ptFirst a_ptSecond a_before a_after a_exitOf a_head ro br a_codeStart a_codeEnd a_codeOp a_codeDst a_codeMode a_codeX a_codeY a_values a_status a_result a_forks a_outCount a_output a_place := by
    intro e
    induction e with
    | zero =>
      intro p hp ro br h1 h2 k hk
      obtain ⟨m, rfl⟩ : ∃ m, k = m + 1 := ⟨k - 1, by omega⟩
      obtain rfl : p = n := by omega
      exact br_t (nI_le (by omega) (by omega)) (K ro br h1 h2)
    | succ e ih =>
      intro p hp ro br h1 h2 k hk
      obtain ⟨m, rfl⟩ : ∃ m, k = m + 1 := ⟨k - 1, by omega⟩
      refine br_f (nI_ge (by omega) (by omega)) ⟨n + 1, xw_rank14 hn hV (by omega) hl hb (ih (p + 1) (by omega) _ _ (lt_s (fun q hq => ?_) pk_us) (lt_s (fun q hq => ?_) pk_us) m (by omega)) n 0 (by omega) _ (by omega)⟩
      · rw [pk_un (by omega)]; exact h1 q hq
      · rw [pk_un (fun z => by have := rk_inj hpt.2.2 q p (by omega) (by omega) z; omega)]; exact h2 q hq
  exact ⟨n + 1, key n 0 (by omega) a_rankOf a_byRank (fun q hq => by omega) (fun q hq => by omega) _ (by omega)⟩
/-! exits and heads -/
/-- the end of the chain of jumps from p -/
def pu_ex (n : Nat) (F K : Nat → Int32) (p : Nat) (r : Int32) : Prop :=
  (∃ k, k < n ∧ (∀ j, j < k → K (pu_ch F p j) = 3) ∧ K (pu_ch F p k) ≠ 3 ∧ r = nI (pu_ch F p k)) ∨ ((∀ k, k < n → K (pu_ch F p k) = 3) ∧ r = -1)
theorem xw_follow {post : Int32 → Prop} {p : Nat} (hn : n ≤ 32) (hp : p < n) (hF : ∀ p, p < n → a_ptKind p = 3 → ∃ q, q < n ∧ a_ptFirst p = nI q)
    (K : ∀ r, pu_ex n a_ptFirst a_ptKind p r → post r) : wpX_followJumps post ((nI V), (nI B), (nI L), (nI Q), f_residualMachine, f_directMachine, f_work, f_opMove, f_opOut, f_countCap, f_cursorLabel, f_residual, (nI n), f_codeSize, a_stmt, a_stmtCount, a_term, a_rom, a_initial, a_marked, a_uses, a_dist, a_ptLabel, a_ptKind, a_ptFirst, a_ptSecond, a_before, a_after, a_exitOf, a_head, a_rankOf, a_byRank, a_codeStart, a_codeEnd, a_codeOp, a_codeDst, a_codeMode, a_codeX, a_codeY, a_values, a_status, a_result, a_forks, a_outCount, a_output, a_place) (nI p) := by
  have key : ∀ e i, i + e = n → pu_ch a_ptFirst p i < n → (∀ k, k < i → a_ptKind (pu_ch a_ptFirst p k) = 3) → ∀ k, e < k → wX_followJumps_4 post (nI V) (nI B) (nI L) (nI Q) f_residualMachine f_directMachine f_work f_opMove f_opOut f_countCap f_cursorLabel f_residual (nI n) f_codeSize a_stmt a_stmtCount a_term a_rom a_initial a_marked a_uses a_dist a_ptLabel a_ptKind a_ptFirst a_ptSecond a_before a_after a_exitOf a_head a_rankOf a_byRank a_codeStart a_codeEnd a_codeOp a_codeDst a_codeMode a_codeX a_codeY a_values a_status a_result a_forks a_outCount a_output a_place k (nI (pu_ch a_ptFirst p i)) (nI i) := by
    intro e
    induction e with
    | zero =>
      intro i hi hc hall k hk
      obtain ⟨m, rfl⟩ : ∃ m, k = m + 1 := ⟨k - 1, by omega⟩
      obtain rfl : i = n := by omega
      exact br_t (nI_le (by omega) (by omega)) (K _ (Or.inr ⟨hall, rfl⟩))
    | succ e ih =>
      intro i hi hc hall k hk
      obtain ⟨m, rfl⟩ : ∃ m, k = m + 1 := ⟨k - 1, by omega⟩
      have ec : (nI (pu_ch a_ptFirst p i)).toNatClampNeg = pu_ch a_ptFirst p i := nI_clamp (by omega)
      have ip : vp_in (nI (pu_ch a_ptFirst p i)) 32 := vp_in_nI (by omega) (by omega)
      refine br_f (nI_ge (by omega) (by omega)) (And.intro ip (br_c (fun g => ?_) (fun g => ?_)))
      · rw [ec] at g
        obtain ⟨q, hq, eq⟩ := hF _ hc g
        have ech : pu_ch a_ptFirst p (i + 1) = q := by show (a_ptFirst (pu_ch a_ptFirst p i)).toNatClampNeg = q; rw [eq, nI_clamp (by omega)]
        have := ih (i + 1) (by omega) (by rw [ech]; exact hq) (lt_s hall g) m (by omega)
        rw [ech] at this
        exact And.intro ip (nm_r (e' := nI q) (by rw [ec, eq]) (nm_r (ar_a1 i) this))
      · rw [ec] at g
        exact K _ (Or.inl ⟨i, by omega, hall, g, rfl⟩)
  exact ⟨n + 1, key n 0 (by omega) hp (fun k hk => by omega) _ (by omega)⟩
theorem xw_exits {post : SX → Prop} (hn : n ≤ 32) (hF : ∀ p, p < n → a_ptKind p = 3 → ∃ q, q < n ∧ a_ptFirst p = nI q)
    (K : ∀ ex : Nat → Int32, (∀ p, p < n → pu_ex n a_ptFirst a_ptKind p (ex p)) → post ((nI V), (nI B), (nI L), (nI Q), f_residualMachine, f_directMachine, f_work, f_opMove, f_opOut, f_countCap, f_cursorLabel, f_residual, (nI n), f_codeSize, a_stmt, a_stmtCount, a_term, a_rom, a_initial, a_marked, a_uses, a_dist, a_ptLabel, a_ptKind, a_ptFirst, a_ptSecond, a_before, a_after, ex, a_head, a_rankOf, a_byRank, a_codeStart, a_codeEnd, a_codeOp, a_codeDst, a_codeMode, a_codeX, a_codeY, a_values, a_status, a_result, a_forks, a_outCount, a_output, a_place)) : wpX_findExits post ((nI V), (nI B), (nI L), (nI Q), f_residualMachine, f_directMachine, f_work, f_opMove, f_opOut, f_countCap, f_cursorLabel, f_residual, (nI n), f_codeSize, a_stmt, a_stmtCount, a_term, a_rom, a_initial, a_marked, a_uses, a_dist, a_ptLabel, a_ptKind, a_ptFirst, a_ptSecond, a_before, a_after, a_exitOf, a_head, a_rankOf, a_byRank, a_codeStart, a_codeEnd, a_codeOp, a_codeDst, a_codeMode, a_codeX, a_codeY, a_values, a_status, a_result, a_forks, a_outCount, a_output, a_place) := by
  have key : ∀ e p, p + e = n → ∀ ex : Nat → Int32, (∀ q, q < p → pu_ex n a_ptFirst a_ptKind q (ex q)) → ∀ k, e < k → wX_findExits_2 post (nI V) (nI B) (nI L) (nI Q) f_residualMachine f_directMachine f_work f_opMove f_opOut f_countCap f_cursorLabel f_residual (nI n) f_codeSize k (nI p) a_stmt a_stmtCount a_term a_rom a_initial a_marked a_uses a_dist a_ptLabel a_ptKind a_ptFirst a_ptSecond a_before a_after ex a_head a_rankOf a_byRank a_codeStart a_codeEnd a_codeOp a_codeDst a_codeMode a_codeX a_codeY a_values a_status a_result a_forks a_outCount a_output a_place := by
    intro e
    induction e with
    | zero =>
      intro p hp ex h k hk
      obtain ⟨m, rfl⟩ : ∃ m, k = m + 1 := ⟨k - 1, by omega⟩
      obtain rfl : p = n := by omega
      exact br_t (nI_le (by omega) (by omega)) (K ex h)
    | succ e ih =>
      intro p hp ex h k hk
      obtain ⟨m, rfl⟩ : ∃ m, k = m + 1 := ⟨k - 1, by omega⟩
      refine br_f (nI_ge (by omega) (by omega)) (xw_follow hn (by omega) hF (fun r hr => And.intro (vp_in_nI (by omega) (by omega)) (nm_r (e' := upd ex p r) (by rw [nI_clamp (by omega)]) (nm_r (ar_a1 p) (ih (p + 1) (by omega) _ (lt_s (fun q hq => ?_) ?_) m (by omega))))))
      · rw [pk_un (by omega)]; exact h q hq
      · rw [pk_us]; exact hr
  exact ⟨n + 1, key n 0 (by omega) a_exitOf (fun q hq => by omega) _ (by omega)⟩
theorem nar1 : vp_nar .boolean 1 = 1 := rfl
theorem nar0 : vp_nar .boolean 0 = 0 := rfl
def pu_hd (n : Nat) (F S K : Nat → Int32) (p : Nat) : Prop := p = 0 ∨ ∃ q, q < n ∧ K q = 4 ∧ (F q = nI p ∨ S q = nI p)
theorem xw_heads {post : SX → Prop} (hn : n ≤ 32) (hF : ∀ p, p < n → a_ptKind p = 4 → ∃ q, q < n ∧ a_ptFirst p = nI q) (hS : ∀ p, p < n → a_ptKind p = 4 → ∃ q, q < n ∧ a_ptSecond p = nI q)
    (K : ∀ hd : Nat → Int32, (∀ p, p < n → (hd p = 1 ∧ pu_hd n a_ptFirst a_ptSecond a_ptKind p) ∨ (hd p = 0 ∧ ¬ pu_hd n a_ptFirst a_ptSecond a_ptKind p)) → post ((nI V), (nI B), (nI L), (nI Q), f_residualMachine, f_directMachine, f_work, f_opMove, f_opOut, f_countCap, f_cursorLabel, f_residual, (nI n), f_codeSize, a_stmt, a_stmtCount, a_term, a_rom, a_initial, a_marked, a_uses, a_dist, a_ptLabel, a_ptKind, a_ptFirst, a_ptSecond, a_before, a_after, a_exitOf, hd, a_rankOf, a_byRank, a_codeStart, a_codeEnd, a_codeOp, a_codeDst, a_codeMode, a_codeX, a_codeY, a_values, a_status, a_result, a_forks, a_outCount, a_output, a_place)) : wpX_findHeads post ((nI V), (nI B), (nI L), (nI Q), f_residualMachine, f_directMachine, f_work, f_opMove, f_opOut, f_countCap, f_cursorLabel, f_residual, (nI n), f_codeSize, a_stmt, a_stmtCount, a_term, a_rom, a_initial, a_marked, a_uses, a_dist, a_ptLabel, a_ptKind, a_ptFirst, a_ptSecond, a_before, a_after, a_exitOf, a_head, a_rankOf, a_byRank, a_codeStart, a_codeEnd, a_codeOp, a_codeDst, a_codeMode, a_codeX, a_codeY, a_values, a_status, a_result, a_forks, a_outCount, a_output, a_place) := by
  have key2 : ∀ e q, q + e = n → ∀ hd : Nat → Int32, (∀ p, p < n → (hd p = 1 ∧ pu_hd q a_ptFirst a_ptSecond a_ptKind p) ∨ (hd p = 0 ∧ ¬ pu_hd q a_ptFirst a_ptSecond a_ptKind p)) → ∀ k, e < k → wX_findHeads_33 post (nI V) (nI B) (nI L) (nI Q) f_residualMachine f_directMachine f_work f_opMove f_opOut f_countCap f_cursorLabel f_residual (nI n) f_codeSize k (nI q) a_stmt a_stmtCount a_term a_rom a_initial a_marked a_uses a_dist a_ptLabel a_ptKind a_ptFirst a_ptSecond a_before a_after a_exitOf hd a_rankOf a_byRank a_codeStart a_codeEnd a_codeOp a_codeDst a_codeMode a_codeX a_codeY a_values a_status a_result a_forks a_outCount a_output a_place := by
    intro e
    induction e with
    | zero =>
      intro q hq hd h k hk
      obtain ⟨m, rfl⟩ : ∃ m, k = m + 1 := ⟨k - 1, by omega⟩
      obtain rfl : q = n := by omega
      exact br_t (nI_le (by omega) (by omega)) (K hd h)
    | succ e ih =>
      intro q hq hd h k hk
      obtain ⟨m, rfl⟩ : ∃ m, k = m + 1 := ⟨k - 1, by omega⟩
      have ec : (nI q).toNatClampNeg = q := nI_clamp (by omega)
      have iq : vp_in (nI q) 32 := vp_in_nI (by omega) (by omega)
      refine br_f (nI_ge (by omega) (by omega)) (And.intro iq (br_c (fun g => ?_) (fun g => ?_)))
      · rw [ec] at g
        obtain ⟨a, ha, ea⟩ := hF q (by omega) g
        obtain ⟨b, hb, eb⟩ := hS q (by omega) g
        have ea' : a_ptFirst (nI q).toNatClampNeg = nI a := by rw [ec, ea]
        have eb' : a_ptSecond (nI q).toNatClampNeg = nI b := by rw [ec, eb]
        refine And.intro iq (And.intro (by rw [ea']; exact vp_in_nI (by omega) (by omega)) (nm_r (e' := upd hd a 1) (by rw [ea', nI_clamp (by omega), nar1]) (And.intro iq (And.intro (by rw [eb']; exact vp_in_nI (by omega) (by omega)) (nm_r (e' := upd (upd hd a 1) b 1) (by rw [eb', nI_clamp (by omega), nar1]) (nm_r (ar_a1 q) (ih (q + 1) (by omega) _ (fun p hp => ?_) m (by omega))))))))
        by_cases zb : p = b
        · left
          refine ⟨by rw [zb, pk_us], Or.inr ⟨q, by omega, g, Or.inr (by rw [eb, zb])⟩⟩
        · by_cases za : p = a
          · left
            refine ⟨by rw [pk_un zb, za, pk_us], Or.inr ⟨q, by omega, g, Or.inl (by rw [ea, za])⟩⟩
          · rw [pk_un zb, pk_un za]
            rcases h p hp with ⟨h1, h2⟩ | ⟨h1, h2⟩
            · refine Or.inl ⟨h1, ?_⟩
              rcases h2 with h2 | ⟨q', hq', h2⟩
              · exact Or.inl h2
              · exact Or.inr ⟨q', by omega, h2⟩
            · refine Or.inr ⟨h1, fun z => h2 ?_⟩
              rcases z with z | ⟨q', hq', z1, z2⟩
              · exact Or.inl z
              · by_cases zq : q' = q
                · subst zq
                  rw [ea, eb] at z2
                  rcases z2 with z2 | z2
                  · exact absurd ((nI_eq (by omega) (by omega)).mp z2).symm za
                  · exact absurd ((nI_eq (by omega) (by omega)).mp z2).symm zb
                · exact Or.inr ⟨q', by omega, z1, z2⟩
      · rw [ec] at g
        refine nm_r (ar_a1 q) (ih (q + 1) (by omega) hd (fun p hp => ?_) m (by omega))
        rcases h p hp with ⟨h1, h2⟩ | ⟨h1, h2⟩
        · refine Or.inl ⟨h1, ?_⟩
          rcases h2 with h2 | ⟨q', hq', h2⟩
          · exact Or.inl h2
          · exact Or.inr ⟨q', by omega, h2⟩
        · refine Or.inr ⟨h1, fun z => h2 ?_⟩
          rcases z with z | ⟨q', hq', z1, z2⟩
          · exact Or.inl z
          · by_cases zq : q' = q
            · subst zq; exact absurd z1 g
            · exact Or.inr ⟨q', by omega, z1, z2⟩
  have key1 : ∀ e p, p + e = n → ∀ hd : Nat → Int32, (∀ q, q < p → hd q = if q = 0 then 1 else 0) → ∀ k, e < k → wX_findHeads_2 post (nI V) (nI B) (nI L) (nI Q) f_residualMachine f_directMachine f_work f_opMove f_opOut f_countCap f_cursorLabel f_residual (nI n) f_codeSize k (nI p) a_stmt a_stmtCount a_term a_rom a_initial a_marked a_uses a_dist a_ptLabel a_ptKind a_ptFirst a_ptSecond a_before a_after a_exitOf hd a_rankOf a_byRank a_codeStart a_codeEnd a_codeOp a_codeDst a_codeMode a_codeX a_codeY a_values a_status a_result a_forks a_outCount a_output a_place := by
    intro e
    induction e with
    | zero =>
      intro p hp hd h k hk
      obtain ⟨m, rfl⟩ : ∃ m, k = m + 1 := ⟨k - 1, by omega⟩
      obtain rfl : p = n := by omega
      refine br_t (nI_le (by omega) (by omega)) ⟨p + 1, key2 p 0 (by omega) hd (fun q hq => ?_) _ (by omega)⟩
      rw [h q hq]
      by_cases z : q = 0
      · rw [if_pos z]; exact Or.inl ⟨rfl, Or.inl z⟩
      · rw [if_neg z]; refine Or.inr ⟨rfl, fun y => ?_⟩
        rcases y with y | ⟨q', hq', _⟩
        · exact z y
        · omega
    | succ e ih =>
      intro p hp hd h k hk
      obtain ⟨m, rfl⟩ : ∃ m, k = m + 1 := ⟨k - 1, by omega⟩
      have ec : (nI p).toNatClampNeg = p := nI_clamp (by omega)
      have ip : vp_in (nI p) 32 := vp_in_nI (by omega) (by omega)
      refine br_f (nI_ge (by omega) (by omega)) ?_
      by_cases z : p = 0
      · subst z
        refine br_t rfl (And.intro ip (nm_r (e' := upd hd 0 1) (by rw [ec, nar1]) (nm_r (ar_a1 0) (ih 1 (by omega) _ (lt_s (fun q hq => by omega) ?_) m (by omega)))))
        rw [pk_us]; rfl
      · refine br_f (nI_ne0 (by omega) (by omega)) (And.intro ip (nm_r (e' := upd hd p 0) (by rw [ec, nar0]) (nm_r (ar_a1 p) (ih (p + 1) (by omega) _ (lt_s (fun q hq => ?_) ?_) m (by omega)))))
        · rw [pk_un (by omega)]; exact h q hq
        · rw [pk_us, if_neg z]
  exact ⟨n + 1, key1 n 0 (by omega) a_head (fun q hq => by omega) _ (by omega)⟩
end
end
section
/-! residual code -/
def pu_xa (V : Nat) (D : Nat → Bool) (st : Nat → Int32) (b md x a : Int32) : Prop :=
  (¬ md &&& b = 0 ∧ ∃ j, j < V ∧ a = nI j ∧ D j = true ∧ x = nI j) ∨ (md &&& b = 0 ∧ pu_dyo D a = false ∧ x = pu_ov st a)
def pu_ins (V : Nat) (cd rom : Nat → Int32) (D : Nat → Bool) (r : Nat) (st : Nat → Int32) (op ds md x y : Int32) : Prop :=
  (cd r = 2 ∧ op = 11 ∧ pu_xa V D st 1 md x (cd (r + 1)) ∧ md &&& 2 = 0) ∨
  (cd r = 1 ∧ ds = cd (r + 1) ∧ op = 10 ∧ md &&& 1 = 0 ∧ md &&& 2 = 0 ∧ pu_dyo D (cd (r + 3)) = false ∧ pu_dyo D (cd (r + 4)) = false ∧ x = pu_ap rom (cd (r + 2)) (pu_ov st (cd (r + 3))) (pu_ov st (cd (r + 4)))) ∨
  (cd r = 1 ∧ ds = cd (r + 1) ∧ op = cd (r + 2) ∧ pu_xa V D st 1 md x (cd (r + 3)) ∧ pu_xa V D st 2 md y (cd (r + 4)))
def pu_ns (cd : Nat → Int32) (D : Nat → Bool) (r : Nat) : Bool := decide (cd r = 2) || D (cd (r + 1)).toNatClampNeg
def pu_cc (cd : Nat → Int32) (D : Nat → Bool) (l : Nat) : Nat → Nat
  | 0 => 0
  | i + 1 => pu_cc cd D l i + (if pu_ns cd D (l * 35 + i * 5) = true then 1 else 0)
theorem cc_le (cd : Nat → Int32) (D : Nat → Bool) (l : Nat) : ∀ i, pu_cc cd D l i ≤ i := by
  intro i
  induction i with
  | zero => exact Nat.le_refl 0
  | succ i ih => unfold pu_cc; split <;> omega
theorem cc_mono (cd : Nat → Int32) (D : Nat → Bool) (l : Nat) {i j : Nat} (h : i ≤ j) : pu_cc cd D l i ≤ pu_cc cd D l j := by
  induction j with
  | zero => rw [show i = 0 by omega]; exact Nat.le_refl _
  | succ j ih =>
    by_cases e : i = j + 1
    · rw [e]; exact Nat.le_refl _
    · have := ih (by omega)
      rw [show pu_cc cd D l (j + 1) = pu_cc cd D l j + (if pu_ns cd D (l * 35 + j * 5) = true then 1 else 0) from rfl]; omega
theorem cc_lt {cd : Nat → Int32} {D : Nat → Bool} {l i j : Nat} (h : i < j) (hn : pu_ns cd D (l * 35 + i * 5) = true) : pu_cc cd D l i < pu_cc cd D l j := by
  have := cc_mono cd D l (show i + 1 ≤ j from h)
  rw [show pu_cc cd D l (i + 1) = pu_cc cd D l i + (if pu_ns cd D (l * 35 + i * 5) = true then 1 else 0) from rfl, if_pos hn] at this
  omega
/-- the code of a block, from s on, for the store st0 -/
def pu_pc (V : Nat) (cd rom : Nat → Int32) (D : Nat → Bool) (l : Nat) (st0 : Nat → Int32) (N s : Nat) (co cn cm cx cy : Nat → Int32) : Prop :=
  ∀ i, i < N → pu_ns cd D (l * 35 + i * 5) = true →
    pu_ins V cd rom D (l * 35 + i * 5) (pu_sn cd rom D l st0 i) (co (s + pu_cc cd D l i)) (cn (s + pu_cc cd D l i)) (cm (s + pu_cc cd D l i)) (cx (s + pu_cc cd D l i)) (cy (s + pu_cc cd D l i))
theorem pc_ext {V : Nat} {cd rom : Nat → Int32} {D : Nat → Bool} {l : Nat} {st0 : Nat → Int32} {N s : Nat} {co cn cm cx cy co' cn' cm' cx' cy' : Nat → Int32} {M : Nat} (hM : s + pu_cc cd D l N ≤ M)
    (h : ∀ k, k < M → co' k = co k ∧ cn' k = cn k ∧ cm' k = cm k ∧ cx' k = cx k ∧ cy' k = cy k) (hp : pu_pc V cd rom D l st0 N s co cn cm cx cy) : pu_pc V cd rom D l st0 N s co' cn' cm' cx' cy' := by
  intro i hi hn
  have := cc_lt hi hn
  obtain ⟨a, b, c, d, e⟩ := h (s + pu_cc cd D l i) (by omega)
  rw [a, b, c, d, e]
  exact hp i hi hn
section
variable {V B L Q n : Nat} {f_residualMachine f_directMachine f_work f_opMove f_opOut f_countCap f_cursorLabel f_residual f_found f_codeSize : Int32} {a_stmt a_stmtCount a_term a_rom a_initial a_marked a_uses a_dist a_ptLabel a_ptKind a_ptFirst a_ptSecond a_before a_after a_exitOf a_head a_rankOf a_byRank a_codeStart a_codeEnd a_codeOp a_codeDst a_codeMode a_codeX a_codeY a_values a_status a_result a_forks a_outCount a_output a_place : Nat → Int32} {sz : Nat → Nat} {cd pl pv : Nat → Int32} {D : Nat → Bool}
theorem ar_b8 : ∀ k, k < 128 → (nI k).toInt8.toInt32 = nI k := by decide +kernel
theorem xw_put {post : SX → Prop} {s o d m : Nat} {op ds md x y : Int32} (eo : op = nI o) (ed : ds = nI d) (em : md = nI m) (hs : s < 6144) (ho : o < 128) (hd : d < 128) (hm : m < 128)
    (K : post ((nI V), (nI B), (nI L), (nI Q), f_residualMachine, f_directMachine, f_work, f_opMove, f_opOut, f_countCap, f_cursorLabel, f_residual, f_found, (nI (s + 1)), a_stmt, a_stmtCount, a_term, a_rom, a_initial, a_marked, a_uses, a_dist, a_ptLabel, a_ptKind, a_ptFirst, a_ptSecond, a_before, a_after, a_exitOf, a_head, a_rankOf, a_byRank, a_codeStart, a_codeEnd, (upd a_codeOp s (nI o)), (upd a_codeDst s (nI d)), (upd a_codeMode s (nI m)), (upd a_codeX s x), (upd a_codeY s y), a_values, a_status, a_result, a_forks, a_outCount, a_output, a_place)) :
    wpX_putCode post ((nI V), (nI B), (nI L), (nI Q), f_residualMachine, f_directMachine, f_work, f_opMove, f_opOut, f_countCap, f_cursorLabel, f_residual, f_found, (nI s), a_stmt, a_stmtCount, a_term, a_rom, a_initial, a_marked, a_uses, a_dist, a_ptLabel, a_ptKind, a_ptFirst, a_ptSecond, a_before, a_after, a_exitOf, a_head, a_rankOf, a_byRank, a_codeStart, a_codeEnd, a_codeOp, a_codeDst, a_codeMode, a_codeX, a_codeY, a_values, a_status, a_result, a_forks, a_outCount, a_output, a_place) op ds md x y := by
  subst eo ed em
  have is : vp_in (nI s) 6144 := vp_in_nI hs (by omega)
  have es : (nI s).toNatClampNeg = s := nI_clamp (by omega)
  refine br_t (nI_lt (b := 6144) hs (by omega)) (And.intro is (nm_r (e' := upd a_codeOp s (nI o)) (by rw [es, pk_vb, ar_b8 o ho]) (And.intro is (nm_r (e' := upd a_codeDst s (nI d)) (by rw [es, pk_vb, ar_b8 d hd]) (And.intro is (nm_r (e' := upd a_codeMode s (nI m)) (by rw [es, pk_vb, ar_b8 m hm]) (And.intro is (nm_r (e' := upd a_codeX s x) (by rw [es]) (And.intro is (nm_r (e' := upd a_codeY s y) (by rw [es]) (nm_r (ar_a1 s) K)))))))))))
theorem xa_yes {st : Nat → Int32} {b md a : Int32} (ho : pu_op V a) (hV : V ≤ 8) (h : pu_dyo D a = true) (hb : ¬ md &&& b = 0) : pu_xa V D st b md a a := by
  rcases ho with z | ⟨j, hj, rfl⟩
  · unfold pu_dyo at h; rw [decide_eq_false (ar_nle z), Bool.false_and] at h; exact absurd h (by decide)
  · unfold pu_dyo at h
    rw [decide_eq_true (nI_pos' (n := j) (by omega)), Bool.true_and, nI_clamp (by omega)] at h
    exact Or.inl ⟨hb, j, hj, rfl, h, rfl⟩
theorem xw_cemit {post : SX → Prop} {s r : Nat} {st : Nat → Int32} {a : Int32} (ea : a = cd (r + 1)) (r2 : cd r = 2) (hV : V ≤ 8) (ho : pu_op V (cd (r + 1))) (hs : s < 6144) (hD : ∀ v, v < V → (0 ≤ a_dist v ↔ D v = true)) (hst : ∀ v, v < V → a_values (16 + v) = st v)
    (K : ∀ op ds md x y, pu_ins V cd a_rom D r st op ds md x y → post ((nI V), (nI B), (nI L), (nI Q), f_residualMachine, f_directMachine, f_work, f_opMove, f_opOut, f_countCap, f_cursorLabel, f_residual, f_found, (nI (s + 1)), a_stmt, a_stmtCount, a_term, a_rom, a_initial, a_marked, a_uses, a_dist, a_ptLabel, a_ptKind, a_ptFirst, a_ptSecond, a_before, a_after, a_exitOf, a_head, a_rankOf, a_byRank, a_codeStart, a_codeEnd, (upd a_codeOp s op), (upd a_codeDst s ds), (upd a_codeMode s md), (upd a_codeX s x), (upd a_codeY s y), a_values, a_status, a_result, a_forks, a_outCount, a_output, a_place)) :
    wpX_compileEmit post ((nI V), (nI B), (nI L), (nI Q), f_residualMachine, f_directMachine, f_work, f_opMove, f_opOut, f_countCap, f_cursorLabel, f_residual, f_found, (nI s), a_stmt, a_stmtCount, a_term, a_rom, a_initial, a_marked, a_uses, a_dist, a_ptLabel, a_ptKind, a_ptFirst, a_ptSecond, a_before, a_after, a_exitOf, a_head, a_rankOf, a_byRank, a_codeStart, a_codeEnd, a_codeOp, a_codeDst, a_codeMode, a_codeX, a_codeY, a_values, a_status, a_result, a_forks, a_outCount, a_output, a_place) a := by
  have edy := dyo_dy (a_dist := a_dist) ho hV hD
  unfold wpX_compileEmit
  refine xw_resid ea hV ho (xw_isDyn ea hV ho (fun g => ?_) (fun g => ?_))
  · refine br_f (by decide) (xw_put (o := 11) (d := 0) (m := 1) rfl rfl rfl hs (by omega) (by omega) (by omega) (K _ _ _ _ _ (Or.inl ⟨r2, rfl, ?_, by decide⟩)))
    rw [if_pos g]
    rw [edy] at g
    exact xa_yes ho hV g (by decide)
  · refine br_t rfl (xw_put (o := 11) (d := 0) (m := 0) rfl rfl rfl hs (by omega) (by omega) (by omega) (K _ _ _ _ _ (Or.inl ⟨r2, rfl, ?_, by decide⟩)))
    rw [if_neg (by rw [g]; decide)]
    rw [edy] at g
    exact Or.inr ⟨by decide, g, ov_ext hV ho hst⟩
theorem xw_cassign {post : SX → Prop} {s k r d : Nat} {st : Nat → Int32} (hV : V ≤ 8) (hk : k + 4 < 480) (E : ∀ f, f < 5 → a_stmt (k + f) = cd (r + f)) (r1 : cd r = 1) (hd : d < V) (ed : cd (r + 1) = nI d) (hop : ∃ o, o ≤ 9 ∧ cd (r + 2) = nI o)
    (h3 : pu_op V (cd (r + 3))) (h4 : pu_op V (cd (r + 4))) (hs : s < 6144) (hD : ∀ v, v < V → (0 ≤ a_dist v ↔ D v = true)) (hst : ∀ v, v < V → a_values (16 + v) = st v)
    (K : ∀ op ds md x y, pu_ins V cd a_rom D r st op ds md x y → post ((nI V), (nI B), (nI L), (nI Q), f_residualMachine, f_directMachine, f_work, f_opMove, f_opOut, f_countCap, f_cursorLabel, f_residual, f_found, (nI (s + 1)), a_stmt, a_stmtCount, a_term, a_rom, a_initial, a_marked, a_uses, a_dist, a_ptLabel, a_ptKind, a_ptFirst, a_ptSecond, a_before, a_after, a_exitOf, a_head, a_rankOf, a_byRank, a_codeStart, a_codeEnd, (upd a_codeOp s op), (upd a_codeDst s ds), (upd a_codeMode s md), (upd a_codeX s x), (upd a_codeY s y), a_values, a_status, a_result, a_forks, a_outCount, a_output, a_place)) :
    wpX_compileAssign post ((nI V), (nI B), (nI L), (nI Q), f_residualMachine, f_directMachine, f_work, f_opMove, f_opOut, f_countCap, f_cursorLabel, f_residual, f_found, (nI s), a_stmt, a_stmtCount, a_term, a_rom, a_initial, a_marked, a_uses, a_dist, a_ptLabel, a_ptKind, a_ptFirst, a_ptSecond, a_before, a_after, a_exitOf, a_head, a_rankOf, a_byRank, a_codeStart, a_codeEnd, a_codeOp, a_codeDst, a_codeMode, a_codeX, a_codeY, a_values, a_status, a_result, a_forks, a_outCount, a_output, a_place) (nI k) := by
  have e1 : a_stmt (nI k + 1).toNatClampNeg = nI d := by rw [ar_a1, nI_clamp (by omega), E 1 (by omega), ed]
  have e2 : a_stmt (nI k + 2).toNatClampNeg = cd (r + 2) := by rw [ar_a2, nI_clamp (by omega), E 2 (by omega)]
  have e3 : a_stmt (nI k + 3).toNatClampNeg = cd (r + 3) := by rw [ar_a3, nI_clamp (by omega), E 3 (by omega)]
  have e4 : a_stmt (nI k + 4).toNatClampNeg = cd (r + 4) := by rw [ar_a4, nI_clamp (by omega), E 4 (by omega)]
  have i1 : vp_in (nI k + 1) 480 := by rw [ar_a1]; exact vp_in_nI (by omega) (by omega)
  have i2 : vp_in (nI k + 2) 480 := by rw [ar_a2]; exact vp_in_nI (by omega) (by omega)
  have i3 : vp_in (nI k + 3) 480 := by rw [ar_a3]; exact vp_in_nI (by omega) (by omega)
  have i4 : vp_in (nI k + 4) 480 := by rw [ar_a4]; exact vp_in_nI (by omega) (by omega)
  have d3 := dyo_dy (a_dist := a_dist) h3 hV hD
  have d4 := dyo_dy (a_dist := a_dist) h4 hV hD
  have v3 : pu_ov (fun v => a_values (16 + v)) (cd (r + 3)) = pu_ov st (cd (r + 3)) := ov_ext hV h3 hst
  have v4 : pu_ov (fun v => a_values (16 + v)) (cd (r + 4)) = pu_ov st (cd (r + 4)) := ov_ext hV h4 hst
  obtain ⟨o, ho, eo⟩ := hop
  have hneg : ¬ cd (r + 2) < 0 := by rw [eo]; exact nI_pos (by omega)
  have fin : ∀ m, m < 4 → ¬ nI m = 0 → ∀ x y, pu_xa V D st 1 (nI m) x (cd (r + 3)) → pu_xa V D st 2 (nI m) y (cd (r + 4)) → wX_compileAssign_73 post (nI k) (cd (r + 2)) x y (nI m) (nI V) (nI B) (nI L) (nI Q) f_residualMachine f_directMachine f_work f_opMove f_opOut f_countCap f_cursorLabel f_residual f_found (nI s) a_stmt a_stmtCount a_term a_rom a_initial a_marked a_uses a_dist a_ptLabel a_ptKind a_ptFirst a_ptSecond a_before a_after a_exitOf a_head a_rankOf a_byRank a_codeStart a_codeEnd a_codeOp a_codeDst a_codeMode a_codeX a_codeY a_values a_status a_result a_forks a_outCount a_output a_place := by
    intro m hm hm0 x y hx hy
    refine br_f hm0 (And.intro i1 (xw_put (o := o) (d := d) (m := m) eo e1 rfl hs (by omega) (by omega) (by omega) (K _ _ _ _ _ (Or.inr (Or.inr ⟨r1, ed.symm, eo.symm, hx, hy⟩)))))
  refine And.intro i3 (nm_r e3 (And.intro i4 (nm_r e4 (And.intro i2 (nm_r e2 (xw_resid rfl hV h3 (xw_resid rfl hV h4 (xw_isDyn rfl hV h3 (fun g3 => ?_) (fun g3 => ?_)))))))))
  · rw [if_pos g3]
    rw [d3] at g3
    refine br_f (by decide) (nm_r (e' := nI 1) (by decide) (xw_isDyn rfl hV h4 (fun g4 => ?_) (fun g4 => ?_)))
    · rw [if_pos g4]
      rw [d4] at g4
      exact br_f (by decide) (nm_r (e' := nI 3) (by decide) (fin 3 (by omega) (by decide) _ _ (xa_yes h3 hV g3 (by decide)) (xa_yes h4 hV g4 (by decide))))
    · rw [if_neg (by rw [g4]; decide), v4]
      rw [d4] at g4
      exact br_t rfl (fin 1 (by omega) (by decide) _ _ (xa_yes h3 hV g3 (by decide)) (Or.inr ⟨by decide, g4, rfl⟩))
  · rw [if_neg (by rw [g3]; decide), v3]
    rw [d3] at g3
    refine br_t rfl (xw_isDyn rfl hV h4 (fun g4 => ?_) (fun g4 => ?_))
    · rw [if_pos g4]
      rw [d4] at g4
      exact br_f (by decide) (nm_r (e' := nI 2) (by decide) (fin 2 (by omega) (by decide) _ _ (Or.inr ⟨by decide, g3, rfl⟩) (xa_yes h4 hV g4 (by decide))))
    · rw [if_neg (by rw [g4]; decide), v4]
      rw [d4] at g4
      exact br_t rfl (br_t rfl (xw_apply hneg (And.intro i1 (xw_put (o := 10) (d := d) (m := 0) rfl e1 rfl hs (by omega) (by omega) (by omega) (K _ _ _ _ _ (Or.inr (Or.inl ⟨r1, ed.symm, rfl, by decide, by decide, g3, g4, rfl⟩)))))))
theorem xw_cpoint {post : SX → Prop} {p l s : Nat} (hs : pu_src V B L sz cd a_stmt a_stmtCount a_term) (hV : V ≤ 8) (hL : L ≤ 6) (hl : l < 16) (hp : p < 32) (hpl : a_ptLabel p = nI l) (hsz : s + 6 ≤ 6144) (hD : ∀ v, v < V → (0 ≤ a_dist v ↔ D v = true))
    (hb : ∀ v, v < V → a_before (p * 8 + v) = pv (p * 8 + v))
    (K : ∀ w co cn cm cx cy, (∀ j, j < 16 → w j = a_values j) → pu_pc V cd a_rom D l (pu_s0 pv p) (sz l) s co cn cm cx cy → (∀ k, k < s → co k = a_codeOp k ∧ cn k = a_codeDst k ∧ cm k = a_codeMode k ∧ cx k = a_codeX k ∧ cy k = a_codeY k) →
      post ((nI V), (nI B), (nI L), (nI Q), f_residualMachine, f_directMachine, f_work, f_opMove, f_opOut, f_countCap, f_cursorLabel, f_residual, f_found, (nI (s + pu_cc cd D l (sz l))), a_stmt, a_stmtCount, a_term, a_rom, a_initial, a_marked, a_uses, a_dist, a_ptLabel, a_ptKind, a_ptFirst, a_ptSecond, a_before, a_after, a_exitOf, a_head, a_rankOf, a_byRank, a_codeStart, a_codeEnd, co, cn, cm, cx, cy, w, a_status, a_result, a_forks, a_outCount, a_output, a_place)) : wpX_compilePoint post ((nI V), (nI B), (nI L), (nI Q), f_residualMachine, f_directMachine, f_work, f_opMove, f_opOut, f_countCap, f_cursorLabel, f_residual, f_found, (nI s), a_stmt, a_stmtCount, a_term, a_rom, a_initial, a_marked, a_uses, a_dist, a_ptLabel, a_ptKind, a_ptFirst, a_ptSecond, a_before, a_after, a_exitOf, a_head, a_rankOf, a_byRank, a_codeStart, a_codeEnd, a_codeOp, a_codeDst, a_codeMode, a_codeX, a_codeY, a_values, a_status, a_result, a_forks, a_outCount, a_output, a_place) (nI p) := by
  have hz := Nat.le_trans (sr_sz hs hl) hL
  have ecl : a_stmtCount (nI l).toNatClampNeg = nI (sz l) := by rw [nI_clamp (by omega), sr_cnt hs hl]
  have il : vp_in (nI l) 16 := vp_in_nI hl (by omega)
  have key : ∀ e i, i + e = sz l → ∀ w co cn cm cx cy : Nat → Int32, (∀ v, v < V → w (16 + v) = pu_sn cd a_rom D l (pu_s0 pv p) i v) → (∀ j, j < 16 → w j = a_values j) → pu_pc V cd a_rom D l (pu_s0 pv p) i s co cn cm cx cy →
      (∀ k, k < s → co k = a_codeOp k ∧ cn k = a_codeDst k ∧ cm k = a_codeMode k ∧ cx k = a_codeX k ∧ cy k = a_codeY k) → ∀ n, e < n →
      wX_compilePoint_14 post (nI l) n (nI i) (nI V) (nI B) (nI L) (nI Q) f_residualMachine f_directMachine f_work f_opMove f_opOut f_countCap f_cursorLabel f_residual f_found (nI (s + pu_cc cd D l i)) a_stmt a_stmtCount a_term a_rom a_initial a_marked a_uses a_dist a_ptLabel a_ptKind a_ptFirst a_ptSecond a_before a_after a_exitOf a_head a_rankOf a_byRank a_codeStart a_codeEnd co cn cm cx cy w a_status a_result a_forks a_outCount a_output a_place := by
    intro e
    induction e with
    | zero =>
      intro i hi w co cn cm cx cy h1 h2 h3 h4 n hn
      obtain ⟨m, rfl⟩ : ∃ m, n = m + 1 := ⟨n - 1, by omega⟩
      obtain rfl : i = sz l := by omega
      exact And.intro il (br_t (by rw [ecl]; exact nI_le (by omega) (by omega)) (K w co cn cm cx cy h2 h3 h4))
    | succ e ih =>
      intro i hi w co cn cm cx cy h1 h2 h3 h4 n hn
      obtain ⟨m, rfl⟩ : ∃ m, n = m + 1 := ⟨n - 1, by omega⟩
      have hcc := cc_le cd D l i
      refine And.intro il (br_f (by rw [ecl]; exact nI_ge (by omega) (by omega)) (nm_r (ar_st l i) ?_))
      generalize hk : (l * 6 + i) * 5 = k
      have E : ∀ f, f < 5 → a_stmt (k + f) = cd (l * 35 + i * 5 + f) := fun f hf => by rw [← hk]; exact sr_st hs f hl (by omega) hf
      have hk4 : k + 4 < 480 := by omega
      have E0 : a_stmt (nI k).toNatClampNeg = cd (l * 35 + i * 5) := by rw [nI_clamp (by omega)]; exact E 0 (by omega)
      have E1 : a_stmt (nI k + 1).toNatClampNeg = cd (l * 35 + i * 5 + 1) := by rw [ar_a1, nI_clamp (by omega), E 1 (by omega)]
      have i1 : vp_in (nI k + 1) 480 := by rw [ar_a1]; exact vp_in_nI (by omega) (by omega)
      have put : pu_ns cd D (l * 35 + i * 5) = true → (∀ v, v < V → pu_s1 cd a_rom D (l * 35 + i * 5) (pu_sn cd a_rom D l (pu_s0 pv p) i) v = pu_sn cd a_rom D l (pu_s0 pv p) i v) →
          ∀ op ds md x y, pu_ins V cd a_rom D (l * 35 + i * 5) (pu_sn cd a_rom D l (pu_s0 pv p) i) op ds md x y →
          wX_compilePoint_14 post (nI l) m (nI (i + 1)) (nI V) (nI B) (nI L) (nI Q) f_residualMachine f_directMachine f_work f_opMove f_opOut f_countCap f_cursorLabel f_residual f_found (nI (s + pu_cc cd D l i + 1)) a_stmt a_stmtCount a_term a_rom a_initial a_marked a_uses a_dist a_ptLabel a_ptKind a_ptFirst a_ptSecond a_before a_after a_exitOf a_head a_rankOf a_byRank a_codeStart a_codeEnd (upd co (s + pu_cc cd D l i) op) (upd cn (s + pu_cc cd D l i) ds) (upd cm (s + pu_cc cd D l i) md) (upd cx (s + pu_cc cd D l i) x) (upd cy (s + pu_cc cd D l i) y) w a_status a_result a_forks a_outCount a_output a_place := by
        intro hns hst op ds md x y hins
        have := ih (i + 1) (by omega) w (upd co (s + pu_cc cd D l i) op) (upd cn (s + pu_cc cd D l i) ds) (upd cm (s + pu_cc cd D l i) md) (upd cx (s + pu_cc cd D l i) x) (upd cy (s + pu_cc cd D l i) y)
          (fun v hv => (h1 v hv).trans (hst v hv).symm) h2 (fun i' hi' hn' => ?_) (fun k hk => ?_) m (by omega)
        · rw [show pu_cc cd D l (i + 1) = pu_cc cd D l i + (if pu_ns cd D (l * 35 + i * 5) = true then 1 else 0) from rfl, if_pos hns, ← Nat.add_assoc] at this
          exact this
        · by_cases z : i' = i
          · subst z; rw [pk_us, pk_us, pk_us, pk_us, pk_us]; exact hins
          · have := cc_lt (show i' < i by omega) hn'
            rw [pk_un (by omega), pk_un (by omega), pk_un (by omega), pk_un (by omega), pk_un (by omega)]
            exact h3 i' (by omega) hn'
        · rw [pk_un (by omega), pk_un (by omega), pk_un (by omega), pk_un (by omega), pk_un (by omega)]
          exact h4 k hk
      refine And.intro (vp_in_nI (by omega) (by omega)) ?_
      rcases sr_row hs hl (show i < sz l by omega) with ⟨r1, ⟨d, hd, ed⟩, ro, r3, r4⟩ | ⟨r2, ro⟩
      · have ecd : (nI d).toNatClampNeg = d := nI_clamp (by omega)
        refine br_f (by rw [E0, r1]; decide) (And.intro i1 (And.intro (by rw [E1, ed]; exact vp_in_nI (by omega) (by omega)) (br_c (fun g => ?_) (fun g => ?_))))
        · rw [E1, ed, ecd, hD d hd] at g
          refine xw_cassign hV hk4 E r1 hd ed ro r3 r4 (by omega) hD h1 (fun op ds md x y hins => nm_r (ar_a1 i) (put ?_ ?_ op ds md x y hins))
          · unfold pu_ns; rw [ed, ecd, g, Bool.or_true]
          · intro v hv; unfold pu_s1; rw [if_neg (fun z => by rw [ed, ecd, g] at z; exact absurd z.2 (by decide))]
        · rw [E1, ed, ecd, hD d hd, Bool.not_eq_true] at g
          have hns : pu_ns cd D (l * 35 + i * 5) = false := by unfold pu_ns; rw [ed, ecd, g, r1]; rfl
          have ecc : pu_cc cd D l (i + 1) = pu_cc cd D l i := by
            rw [show pu_cc cd D l (i + 1) = pu_cc cd D l i + (if pu_ns cd D (l * 35 + i * 5) = true then 1 else 0) from rfl, if_neg (by rw [hns]; decide), Nat.add_zero]
          refine xw_assignOn (b := 16) hV (by omega) hk4 E hd ed ro r3 r4 (nm_r (ar_a1 i) ?_)
          have := ih (i + 1) (by omega) (upd w (16 + d) (pu_ap a_rom (cd (l * 35 + i * 5 + 2)) (pu_ov (fun v => w (16 + v)) (cd (l * 35 + i * 5 + 3))) (pu_ov (fun v => w (16 + v)) (cd (l * 35 + i * 5 + 4))))) co cn cm cx cy
            (fun v hv => ?_) (fun j hj => ?_) (fun i' hi' hn' => ?_) h4 m (by omega)
          · rw [ecc] at this; exact this
          · show _ = pu_s1 cd a_rom D (l * 35 + i * 5) (pu_sn cd a_rom D l (pu_s0 pv p) i) v
            unfold pu_s1
            rw [if_pos ⟨r1, by rw [ed, ecd]; exact g⟩, ov_ext (st' := pu_sn cd a_rom D l (pu_s0 pv p) i) hV r3 h1, ov_ext (st' := pu_sn cd a_rom D l (pu_s0 pv p) i) hV r4 h1, ed, ecd]
            by_cases z : v = d
            · subst z; rw [pk_us, pk_us]
            · rw [pk_un z, pk_un (by omega)]; exact h1 v hv
          · rw [pk_un (by omega)]; exact h2 j hj
          · by_cases z : i' = i
            · subst z; rw [hns] at hn'; exact absurd hn' (by decide)
            · exact h3 i' (by omega) hn'
      · refine br_t (by rw [E0]; exact r2) (And.intro i1 (xw_cemit E1 r2 hV ro (by omega) hD h1 (fun op ds md x y hins => nm_r (ar_a1 i) (put ?_ ?_ op ds md x y hins))))
        · unfold pu_ns; rw [decide_eq_true r2, Bool.true_or]
        · intro v hv; unfold pu_s1; rw [if_neg (fun z => absurd (r2.symm.trans z.1) (by decide))]
  refine And.intro (vp_in_nI (by omega) (by omega)) (nm_r (e' := nI l) (by rw [nI_clamp (by omega), hpl]) ?_)
  refine xw_load hV hp (fun w h1 h2 => ⟨sz l + 1, ?_⟩)
  exact key (sz l) 0 (by omega) w a_codeOp a_codeDst a_codeMode a_codeX a_codeY (fun v hv => (h1 v hv).trans ((hb v hv).trans (s0_at (by omega)).symm)) h2 (fun i hi => by omega) (fun k hk => ⟨rfl, rfl, rfl, rfl, rfl⟩) _ (by omega)
end
end
section
/-- how much code the first k points of a chain take -/
def pu_of (cd : Nat → Int32) (D : Nat → Bool) (sz : Nat → Nat) (pl F : Nat → Int32) (p : Nat) : Nat → Nat
  | 0 => 0
  | k + 1 => pu_of cd D sz pl F p k + pu_cc cd D (pl (pu_ch F p k)).toNatClampNeg (sz (pl (pu_ch F p k)).toNatClampNeg)
theorem of_mono (cd : Nat → Int32) (D : Nat → Bool) (sz : Nat → Nat) (pl F : Nat → Int32) (p : Nat) {i j : Nat} (h : i ≤ j) : pu_of cd D sz pl F p i ≤ pu_of cd D sz pl F p j := by
  induction j with
  | zero => rw [show i = 0 by omega]; exact Nat.le_refl _
  | succ j ih =>
    by_cases e : i = j + 1
    · rw [e]; exact Nat.le_refl _
    · have := ih (by omega)
      rw [show pu_of cd D sz pl F p (j + 1) = pu_of cd D sz pl F p j + pu_cc cd D (pl (pu_ch F p j)).toNatClampNeg (sz (pl (pu_ch F p j)).toNatClampNeg) from rfl]; omega
/-- the code of a chain with K jumps from p, from s on -/
def pu_cch (V : Nat) (cd rom : Nat → Int32) (D : Nat → Bool) (sz : Nat → Nat) (pl pv F : Nat → Int32) (p M s : Nat) (co cn cm cx cy : Nat → Int32) : Prop :=
  ∀ k, k < M → pu_pc V cd rom D (pl (pu_ch F p k)).toNatClampNeg (pu_s0 pv (pu_ch F p k)) (sz (pl (pu_ch F p k)).toNatClampNeg) (s + pu_of cd D sz pl F p k) co cn cm cx cy
theorem cch_ext {V : Nat} {cd rom : Nat → Int32} {D : Nat → Bool} {sz : Nat → Nat} {pl pv F : Nat → Int32} {p M s : Nat} {co cn cm cx cy co' cn' cm' cx' cy' : Nat → Int32} {T : Nat} (hT : s + pu_of cd D sz pl F p M ≤ T)
    (h : ∀ k, k < T → co' k = co k ∧ cn' k = cn k ∧ cm' k = cm k ∧ cx' k = cx k ∧ cy' k = cy k) (hp : pu_cch V cd rom D sz pl pv F p M s co cn cm cx cy) : pu_cch V cd rom D sz pl pv F p M s co' cn' cm' cx' cy' := by
  intro k hk
  have := of_mono cd D sz pl F p (show k + 1 ≤ M from hk)
  rw [show pu_of cd D sz pl F p (k + 1) = pu_of cd D sz pl F p k + pu_cc cd D (pl (pu_ch F p k)).toNatClampNeg (sz (pl (pu_ch F p k)).toNatClampNeg) from rfl] at this
  exact pc_ext (M := T) (by omega) h (hp k hk)
section
variable {V B L Q n : Nat} {f_residualMachine f_directMachine f_work f_opMove f_opOut f_countCap f_cursorLabel f_residual f_found f_codeSize : Int32} {a_stmt a_stmtCount a_term a_rom a_initial a_marked a_uses a_dist a_ptLabel a_ptKind a_ptFirst a_ptSecond a_before a_after a_exitOf a_head a_rankOf a_byRank a_codeStart a_codeEnd a_codeOp a_codeDst a_codeMode a_codeX a_codeY a_values a_status a_result a_forks a_outCount a_output a_place : Nat → Int32} {sz : Nat → Nat} {cd pl pv : Nat → Int32} {D : Nat → Bool}
theorem of_le (hs : pu_src V B L sz cd a_stmt a_stmtCount a_term) (hL : L ≤ 6) (hB : B ≤ 16) (hpt : pu_pt V B n D pl pv) {F : Nat → Int32} {p : Nat} : ∀ k, (∀ j, j < k → pu_ch F p j < n) → pu_of cd D sz pl F p k ≤ 6 * k := by
  intro k
  induction k with
  | zero => intro _; exact Nat.le_refl 0
  | succ k ih =>
    intro h
    have h1 := ih (fun j hj => h j (by omega))
    obtain ⟨l, hl, e⟩ := hpt.1 _ (h k (by omega))
    rw [show pu_of cd D sz pl F p (k + 1) = pu_of cd D sz pl F p k + pu_cc cd D (pl (pu_ch F p k)).toNatClampNeg (sz (pl (pu_ch F p k)).toNatClampNeg) from rfl, e, nI_clamp (by omega)]
    have h2 := cc_le cd D l (sz l)
    have h3 := Nat.le_trans (sr_sz hs (show l < 16 by omega)) hL
    omega
theorem xw_cchain {post : SX → Prop} {p K s : Nat} (hs : pu_src V B L sz cd a_stmt a_stmtCount a_term) (hV : V ≤ 8) (hL : L ≤ 6) (hB : B ≤ 16) (hn : n ≤ 32) (hpt : pu_pt V B n D pl pv) (hD : ∀ v, v < V → (0 ≤ a_dist v ↔ D v = true))
    (hl : ∀ p, p < n → a_ptLabel p = pl p) (hb : ∀ p v, p < n → v < V → a_before (p * 8 + v) = pv (p * 8 + v)) (hF : ∀ p, p < n → a_ptKind p = 3 → ∃ q, q < n ∧ a_ptFirst p = nI q)
    (hK : K < n) (hK1 : ∀ j, j < K → a_ptKind (pu_ch a_ptFirst p j) = 3) (hK2 : a_ptKind (pu_ch a_ptFirst p K) ≠ 3) (hp : p < n) (hsz : s + 192 ≤ 6144)
    (K0 : ∀ w co cn cm cx cy, (∀ j, j < 16 → w j = a_values j) → pu_cch V cd a_rom D sz pl pv a_ptFirst p (K + 1) s co cn cm cx cy → (∀ k, k < s → co k = a_codeOp k ∧ cn k = a_codeDst k ∧ cm k = a_codeMode k ∧ cx k = a_codeX k ∧ cy k = a_codeY k) →
      post ((nI V), (nI B), (nI L), (nI Q), f_residualMachine, f_directMachine, f_work, f_opMove, f_opOut, f_countCap, f_cursorLabel, f_residual, (nI n), (nI (s + pu_of cd D sz pl a_ptFirst p (K + 1))), a_stmt, a_stmtCount, a_term, a_rom, a_initial, a_marked, a_uses, a_dist, a_ptLabel, a_ptKind, a_ptFirst, a_ptSecond, a_before, a_after, a_exitOf, a_head, a_rankOf, a_byRank, a_codeStart, a_codeEnd, co, cn, cm, cx, cy, w, a_status, a_result, a_forks, a_outCount, a_output, a_place)) : wpX_compileChain post ((nI V), (nI B), (nI L), (nI Q), f_residualMachine, f_directMachine, f_work, f_opMove, f_opOut, f_countCap, f_cursorLabel, f_residual, (nI n), (nI s), a_stmt, a_stmtCount, a_term, a_rom, a_initial, a_marked, a_uses, a_dist, a_ptLabel, a_ptKind, a_ptFirst, a_ptSecond, a_before, a_after, a_exitOf, a_head, a_rankOf, a_byRank, a_codeStart, a_codeEnd, a_codeOp, a_codeDst, a_codeMode, a_codeX, a_codeY, a_values, a_status, a_result, a_forks, a_outCount, a_output, a_place) (nI p) := by
  have hch : ∀ k, k ≤ K → pu_ch a_ptFirst p k < n := by
    intro k
    induction k with
    | zero => intro _; exact hp
    | succ k ih =>
      intro hk
      obtain ⟨q, hq, e⟩ := hF _ (ih (by omega)) (hK1 k (by omega))
      show (a_ptFirst (pu_ch a_ptFirst p k)).toNatClampNeg < n
      rw [e, nI_clamp (by omega)]; exact hq
  have hof : ∀ k, k ≤ K + 1 → pu_of cd D sz pl a_ptFirst p k ≤ 6 * k := fun k hk => of_le hs hL hB hpt k (fun j hj => hch j (by omega))
  have key : ∀ e i, i + e = K → ∀ w co cn cm cx cy : Nat → Int32, (∀ j, j < 16 → w j = a_values j) → pu_cch V cd a_rom D sz pl pv a_ptFirst p i s co cn cm cx cy → (∀ k, k < s → co k = a_codeOp k ∧ cn k = a_codeDst k ∧ cm k = a_codeMode k ∧ cx k = a_codeX k ∧ cy k = a_codeY k) → ∀ k, e < k →
      wX_compileChain_4 post k (nI (pu_ch a_ptFirst p i)) (nI i) (nI V) (nI B) (nI L) (nI Q) f_residualMachine f_directMachine f_work f_opMove f_opOut f_countCap f_cursorLabel f_residual (nI n) (nI (s + pu_of cd D sz pl a_ptFirst p i)) a_stmt a_stmtCount a_term a_rom a_initial a_marked a_uses a_dist a_ptLabel a_ptKind a_ptFirst a_ptSecond a_before a_after a_exitOf a_head a_rankOf a_byRank a_codeStart a_codeEnd co cn cm cx cy w a_status a_result a_forks a_outCount a_output a_place := by
    intro e
    induction e with
    | zero =>
      intro i hi w co cn cm cx cy h1 h2 h3 k hk
      obtain ⟨m, rfl⟩ : ∃ m, k = m + 1 := ⟨k - 1, by omega⟩
      obtain rfl : i = K := by omega
      obtain ⟨l, hlB, el⟩ := hpt.1 _ (hch i (by omega))
      have hc := hch i (by omega)
      have ho := hof i (by omega)
      have ec : (nI (pu_ch a_ptFirst p i)).toNatClampNeg = pu_ch a_ptFirst p i := nI_clamp (by omega)
      refine br_f (nI_ge (by omega) (by omega)) (xw_cpoint (pv := pv) hs hV hL (show l < 16 by omega) (by omega) ((hl _ hc).trans el) (by omega) hD (fun v hv => hb _ v hc hv) (fun w' co' cn' cm' cx' cy' g1 g2 g3 => ?_))
      refine And.intro (vp_in_nI (by omega) (by omega)) (br_f (by rw [ec]; exact hK2) ?_)
      have := K0 w' co' cn' cm' cx' cy' (fun j hj => (g1 j hj).trans (h1 j hj)) (fun k hk => ?_) (fun k hk => ?_)
      · rw [show pu_of cd D sz pl a_ptFirst p (i + 1) = pu_of cd D sz pl a_ptFirst p i + pu_cc cd D (pl (pu_ch a_ptFirst p i)).toNatClampNeg (sz (pl (pu_ch a_ptFirst p i)).toNatClampNeg) from rfl, el, nI_clamp (by omega), ← Nat.add_assoc] at this
        exact this
      · by_cases z : k = i
        · subst z; rw [el, nI_clamp (by omega)]; exact g2
        · exact cch_ext (Nat.le_refl _) g3 h2 k (by omega)
      · obtain ⟨a1, a2, a3, a4, a5⟩ := g3 k (by omega)
        obtain ⟨b1, b2, b3, b4, b5⟩ := h3 k hk
        exact ⟨a1.trans b1, a2.trans b2, a3.trans b3, a4.trans b4, a5.trans b5⟩
    | succ e ih =>
      intro i hi w co cn cm cx cy h1 h2 h3 k hk
      obtain ⟨m, rfl⟩ : ∃ m, k = m + 1 := ⟨k - 1, by omega⟩
      have hc := hch i (by omega)
      obtain ⟨l, hlB, el⟩ := hpt.1 _ hc
      have ho := hof i (by omega)
      have ec : (nI (pu_ch a_ptFirst p i)).toNatClampNeg = pu_ch a_ptFirst p i := nI_clamp (by omega)
      have ip : vp_in (nI (pu_ch a_ptFirst p i)) 32 := vp_in_nI (by omega) (by omega)
      refine br_f (nI_ge (by omega) (by omega)) (xw_cpoint (pv := pv) hs hV hL (show l < 16 by omega) (by omega) ((hl _ hc).trans el) (by omega) hD (fun v hv => hb _ v hc hv) (fun w' co' cn' cm' cx' cy' g1 g2 g3 => ?_))
      have h3i := hK1 i (by omega)
      obtain ⟨q, hq, eq⟩ := hF _ hc h3i
      have ech : pu_ch a_ptFirst p (i + 1) = q := by show (a_ptFirst (pu_ch a_ptFirst p i)).toNatClampNeg = q; rw [eq, nI_clamp (by omega)]
      refine And.intro ip (br_t (by rw [ec]; exact h3i) (And.intro ip (nm_r (e' := nI q) (by rw [ec, eq]) (nm_r (ar_a1 i) ?_))))
      have := ih (i + 1) (by omega) w' co' cn' cm' cx' cy' (fun j hj => (g1 j hj).trans (h1 j hj)) (fun k hk => ?_) (fun k hk => ?_) m (by omega)
      · rw [ech, show pu_of cd D sz pl a_ptFirst p (i + 1) = pu_of cd D sz pl a_ptFirst p i + pu_cc cd D (pl (pu_ch a_ptFirst p i)).toNatClampNeg (sz (pl (pu_ch a_ptFirst p i)).toNatClampNeg) from rfl, el, nI_clamp (by omega), ← Nat.add_assoc] at this
        exact this
      · by_cases z : k = i
        · subst z; rw [el, nI_clamp (by omega)]; exact g2
        · exact cch_ext (Nat.le_refl _) g3 h2 k (by omega)
      · obtain ⟨a1, a2, a3, a4, a5⟩ := g3 k (by omega)
        obtain ⟨b1, b2, b3, b4, b5⟩ := h3 k hk
        exact ⟨a1.trans b1, a2.trans b2, a3.trans b3, a4.trans b4, a5.trans b5⟩
  exact ⟨K + 1, key K 0 (by omega) a_values a_codeOp a_codeDst a_codeMode a_codeX a_codeY (fun _ _ => rfl) (fun k hk => by omega) (fun k hk => ⟨rfl, rfl, rfl, rfl, rfl⟩) _ (by omega)⟩
/-- the code of head p is there -/
def pu_hc (V n : Nat) (cd rom : Nat → Int32) (D : Nat → Bool) (sz : Nat → Nat) (pl pv F KD : Nat → Int32) (p T : Nat) (cs ce co cn cm cx cy : Nat → Int32) : Prop :=
  ∀ K, K < n → (∀ j, j < K → KD (pu_ch F p j) = 3) → KD (pu_ch F p K) ≠ 3 →
    ∃ s, cs p = nI s ∧ ce p = nI (s + pu_of cd D sz pl F p (K + 1)) ∧ s + pu_of cd D sz pl F p (K + 1) ≤ T ∧ pu_cch V cd rom D sz pl pv F p (K + 1) s co cn cm cx cy
theorem hc_ext {V n : Nat} {cd rom : Nat → Int32} {D : Nat → Bool} {sz : Nat → Nat} {pl pv F KD : Nat → Int32} {p T T' : Nat} {cs ce co cn cm cx cy cs' ce' co' cn' cm' cx' cy' : Nat → Int32} (hT : T ≤ T') (h1 : cs' p = cs p) (h2 : ce' p = ce p)
    (h : ∀ k, k < T → co' k = co k ∧ cn' k = cn k ∧ cm' k = cm k ∧ cx' k = cx k ∧ cy' k = cy k) (hp : pu_hc V n cd rom D sz pl pv F KD p T cs ce co cn cm cx cy) : pu_hc V n cd rom D sz pl pv F KD p T' cs' ce' co' cn' cm' cx' cy' := by
  intro K hK a b
  obtain ⟨s, e1, e2, e3, e4⟩ := hp K hK a b
  exact ⟨s, h1.trans e1, h2.trans e2, by omega, cch_ext e3 h e4⟩
theorem xw_cheads {post : SX → Prop} (hs : pu_src V B L sz cd a_stmt a_stmtCount a_term) (hV : V ≤ 8) (hL : L ≤ 6) (hB : B ≤ 16) (hn : n ≤ 32) (hpt : pu_pt V B n D pl pv) (hD : ∀ v, v < V → (0 ≤ a_dist v ↔ D v = true))
    (hl : ∀ p, p < n → a_ptLabel p = pl p) (hb : ∀ p v, p < n → v < V → a_before (p * 8 + v) = pv (p * 8 + v)) (hF : ∀ p, p < n → a_ptKind p = 3 → ∃ q, q < n ∧ a_ptFirst p = nI q)
    (hex : ∀ p, p < n → pu_ex n a_ptFirst a_ptKind p (a_exitOf p))
    (K0 : ∀ cz w cs ce co cn cm cx cy, (∀ j, j < 16 → w j = a_values j) → (∀ p, p < n → ¬ a_head p = 0 → pu_hc V n cd a_rom D sz pl pv a_ptFirst a_ptKind p 6144 cs ce co cn cm cx cy) →
      post ((nI V), (nI B), (nI L), (nI Q), f_residualMachine, f_directMachine, f_work, f_opMove, f_opOut, f_countCap, f_cursorLabel, f_residual, (nI n), cz, a_stmt, a_stmtCount, a_term, a_rom, a_initial, a_marked, a_uses, a_dist, a_ptLabel, a_ptKind, a_ptFirst, a_ptSecond, a_before, a_after, a_exitOf, a_head, a_rankOf, a_byRank, cs, ce, co, cn, cm, cx, cy, w, a_status, a_result, a_forks, a_outCount, a_output, a_place)) : wpX_compileHeads post ((nI V), (nI B), (nI L), (nI Q), f_residualMachine, f_directMachine, f_work, f_opMove, f_opOut, f_countCap, f_cursorLabel, f_residual, (nI n), f_codeSize, a_stmt, a_stmtCount, a_term, a_rom, a_initial, a_marked, a_uses, a_dist, a_ptLabel, a_ptKind, a_ptFirst, a_ptSecond, a_before, a_after, a_exitOf, a_head, a_rankOf, a_byRank, a_codeStart, a_codeEnd, a_codeOp, a_codeDst, a_codeMode, a_codeX, a_codeY, a_values, a_status, a_result, a_forks, a_outCount, a_output, a_place) := by
  have key : ∀ e p, p + e = n → ∀ (s : Nat) (w cs ce co cn cm cx cy : Nat → Int32), s ≤ 192 * p → (∀ j, j < 16 → w j = a_values j) → (∀ q, q < p → ¬ a_head q = 0 → pu_hc V n cd a_rom D sz pl pv a_ptFirst a_ptKind q s cs ce co cn cm cx cy) → ∀ k, e < k →
      wX_compileHeads_7 post k (nI p) (nI V) (nI B) (nI L) (nI Q) f_residualMachine f_directMachine f_work f_opMove f_opOut f_countCap f_cursorLabel f_residual (nI n) (nI s) a_stmt a_stmtCount a_term a_rom a_initial a_marked a_uses a_dist a_ptLabel a_ptKind a_ptFirst a_ptSecond a_before a_after a_exitOf a_head a_rankOf a_byRank cs ce co cn cm cx cy w a_status a_result a_forks a_outCount a_output a_place := by
    intro e
    induction e with
    | zero =>
      intro p hp s w cs ce co cn cm cx cy hsz h1 h2 k hk
      obtain ⟨m, rfl⟩ : ∃ m, k = m + 1 := ⟨k - 1, by omega⟩
      obtain rfl : p = n := by omega
      exact br_t (nI_le (by omega) (by omega)) (K0 _ w cs ce co cn cm cx cy h1 (fun q hq hh => hc_ext (by omega) rfl rfl (fun k hk => ⟨rfl, rfl, rfl, rfl, rfl⟩) (h2 q hq hh)))
    | succ e ih =>
      intro p hp s w cs ce co cn cm cx cy hsz h1 h2 k hk
      obtain ⟨m, rfl⟩ : ∃ m, k = m + 1 := ⟨k - 1, by omega⟩
      have ip : vp_in (nI p) 32 := vp_in_nI (by omega) (by omega)
      have ec : (nI p).toNatClampNeg = p := nI_clamp (by omega)
      have fin : ∀ (s' : Nat) (w' co' cn' cm' cx' cy' : Nat → Int32), s ≤ s' → s' ≤ s + 192 → (∀ j, j < 16 → w' j = a_values j) → (∀ k, k < s → co' k = co k ∧ cn' k = cn k ∧ cm' k = cm k ∧ cx' k = cx k ∧ cy' k = cy k) →
          (¬ a_head p = 0 → pu_hc V n cd a_rom D sz pl pv a_ptFirst a_ptKind p s' (upd cs p (nI s)) (upd ce p (nI s')) co' cn' cm' cx' cy') →
          wX_compileHeads_48 post (wX_compileHeads_7 post m) (nI p) (nI V) (nI B) (nI L) (nI Q) f_residualMachine f_directMachine f_work f_opMove f_opOut f_countCap f_cursorLabel f_residual (nI n) (nI s') a_stmt a_stmtCount a_term a_rom a_initial a_marked a_uses a_dist a_ptLabel a_ptKind a_ptFirst a_ptSecond a_before a_after a_exitOf a_head a_rankOf a_byRank (upd cs p (nI s)) ce co' cn' cm' cx' cy' w' a_status a_result a_forks a_outCount a_output a_place := by
        intro s' w' co' cn' cm' cx' cy' g1 g2 g3 g4 g5
        refine And.intro ip (nm_r (e' := upd ce p (nI s')) (by rw [ec]) (nm_r (ar_a1 p) (ih (p + 1) (by omega) s' w' _ _ co' cn' cm' cx' cy' (by omega) g3 (lt_s (fun q hq hh => ?_) g5) m (by omega))))
        exact hc_ext g1 (pk_un (by omega)) (pk_un (by omega)) g4 (h2 q hq hh)
      refine br_f (nI_ge (by omega) (by omega)) (And.intro ip (nm_r (e' := upd cs p (nI s)) (by rw [ec]) (And.intro ip (br_c (fun g => ?_) (fun g => ?_)))))
      · rw [ec] at g
        exact fin s w co cn cm cx cy (by omega) (by omega) h1 (fun k hk => ⟨rfl, rfl, rfl, rfl, rfl⟩) (fun z => absurd g z)
      · rw [ec] at g
        refine And.intro ip (br_c (fun y => ?_) (fun y => ?_))
        · rw [ec] at y
          refine fin s w co cn cm cx cy (by omega) (by omega) h1 (fun k hk => ⟨rfl, rfl, rfl, rfl, rfl⟩) (fun _ K hK a b => ?_)
          rcases hex p (by omega) with ⟨k, hk, _, _, e⟩ | ⟨z, _⟩
          · rw [e] at y
            have hall : ∀ i, i ≤ k → pu_ch a_ptFirst p i < n := by
              intro i
              induction i with
              | zero => intro _; exact (by omega : p < n)
              | succ i ih2 =>
                intro hi
                rename_i hmin _
                obtain ⟨q, hq, e⟩ := hF _ (ih2 (by omega)) (hmin i (by omega))
                show (a_ptFirst (pu_ch a_ptFirst p i)).toNatClampNeg < n
                rw [e, nI_clamp (by omega)]; exact hq
            exact absurd y (nI_pos (by have := hall k (Nat.le_refl _); omega))
          · exact absurd (z K hK) b
        · rw [ec] at y
          rcases hex p (by omega) with ⟨K, hK, hK1, hK2, e⟩ | ⟨_, z⟩
          · refine xw_cchain (pl := pl) (pv := pv) hs hV hL hB hn hpt hD hl hb hF hK hK1 hK2 (by omega) (by omega) (fun w' co' cn' cm' cx' cy' g1 g2 g3 => ?_)
            have hch : ∀ k, k ≤ K → pu_ch a_ptFirst p k < n := by
              intro k
              induction k with
              | zero => intro _; exact (by omega : p < n)
              | succ k ih2 =>
                intro hk
                obtain ⟨q, hq, e⟩ := hF _ (ih2 (by omega)) (hK1 k (by omega))
                show (a_ptFirst (pu_ch a_ptFirst p k)).toNatClampNeg < n
                rw [e, nI_clamp (by omega)]; exact hq
            have hof := of_le (F := a_ptFirst) (p := p) hs hL hB hpt (K + 1) (fun j hj => hch j (by omega))
            refine fin _ w' co' cn' cm' cx' cy' (by omega) (by omega) (fun j hj => (g1 j hj).trans (h1 j hj)) g3 (fun _ K' hK' a b => ?_)
            have : K' = K := by
              rcases Nat.lt_trichotomy K' K with z | z | z
              · exact absurd (hK1 K' z) b
              · exact z
              · exact absurd (a K z) hK2
            subst this
            exact ⟨s, pk_us, pk_us, Nat.le_refl _, g2⟩
          · rw [z] at y; exact absurd ar_neg2 y
  exact ⟨n + 1, key n 0 (by omega) 0 a_values a_codeStart a_codeEnd a_codeOp a_codeDst a_codeMode a_codeX a_codeY (by omega) (fun _ _ => rfl) (fun q hq => by omega) _ (by omega)⟩
end
end
section
/-! collecting the points: both sides together -/
def pu_R (V B n : Nat) (D : Nat → Bool) (px bf pl pv : Nat → Int32) : Prop :=
  pu_pt V B n D pl pv ∧ (∀ p, p < n → px p = pl p) ∧ ∀ p v, p < n → v < V → bf (p * 8 + v) = pv (p * 8 + v)
def pu_dn (V n : Nat) (cd rom : Nat → Int32) (sz : Nat → Nat) (D : Nat → Bool) (pk pf ps af pl pv : Nat → Int32) (p : Nat) : Prop :=
  pk p = pu_kd cd sz D (pl p).toNatClampNeg ∧ (∀ v, v < V → af (p * 8 + v) = pu_sb cd rom sz D pl pv p v) ∧ pu_sc V n cd rom sz D pl pv p false (pf p) ∧ pu_sc V n cd rom sz D pl pv p true (ps p)
def pu_ci (V B Q c n : Nat) (cd rom : Nat → Int32) (sz : Nat → Nat) (D : Nat → Bool) (px pk pf ps bf af pl pv : Nat → Int32) : Prop :=
  c ≤ n ∧ 1 ≤ n ∧ n ≤ Q ∧ pu_R V B n D px bf pl pv ∧ ∀ p, p < c → pu_dn V n cd rom sz D pk pf ps af pl pv p
/-- the arrays of points are those of before, with more behind -/
def pu_mo (n n' : Nat) (pl pv pl' pv' : Nat → Int32) : Prop := n ≤ n' ∧ (∀ p, p < n → pl' p = pl p) ∧ ∀ p v, p < n → v < 8 → pv' (p * 8 + v) = pv (p * 8 + v)
theorem mo_tr {n n' n2 : Nat} {pl pv pl' pv' pl2 pv2 : Nat → Int32} (h1 : pu_mo n n' pl pv pl' pv') (h2 : pu_mo n' n2 pl' pv' pl2 pv2) : pu_mo n n2 pl pv pl2 pv2 :=
  ⟨Nat.le_trans h1.1 h2.1, fun p hp => (h2.2.1 p (Nat.lt_of_lt_of_le hp h1.1)).trans (h1.2.1 p hp), fun p v hp hv => (h2.2.2 p v (Nat.lt_of_lt_of_le hp h1.1) hv).trans (h1.2.2 p v hp hv)⟩
theorem dn_mono {V n n' : Nat} {cd rom : Nat → Int32} {sz : Nat → Nat} {D : Nat → Bool} {pk pf ps af pl pv pl' pv' pk' pf' ps' af' : Nat → Int32} {p : Nat} (hV : V ≤ 8) (hp : p < n) (hm : pu_mo n n' pl pv pl' pv')
    (h1 : pk' p = pk p) (h2 : pf' p = pf p) (h3 : ps' p = ps p) (h4 : ∀ v, v < V → af' (p * 8 + v) = af (p * 8 + v)) (h : pu_dn V n cd rom sz D pk pf ps af pl pv p) : pu_dn V n' cd rom sz D pk' pf' ps' af' pl' pv' p := by
  obtain ⟨a, b, c, d⟩ := h
  refine ⟨?_, ?_, ?_, ?_⟩
  · rw [h1, hm.2.1 p hp]; exact a
  · intro v hv; rw [h4 v hv, sb_same (hm.2.1 p hp) (fun v hv => hm.2.2 p v hp hv)]; exact b v hv
  · rw [h2]; exact sc_mono hV hm.1 hp hm.2.1 hm.2.2 c
  · rw [h3]; exact sc_mono hV hm.1 hp hm.2.1 hm.2.2 d
/-- how the reference's step ends where the component's does -/
def pu_yo (V n n' Q : Nat) (pl pv pl' pv' : Nat → Int32) (lab : Int32) (st : Nat → Int32) : Prop :=
  (n' = n ∧ pl' = pl ∧ pv' = pv ∧ ∃ q, q < n ∧ pu_mt V pl pv q lab st) ∨
  ((∀ q, q < n → ¬ pu_mt V pl pv q lab st) ∧ n < Q ∧ n' = n + 1 ∧ pl' = upd pl n lab ∧ pv' = pu_gl pv (n * 8) 8 st)
theorem lk_int {V B Q n n' : Nat} {D : Nat → Bool} {px bf pl pv px' bf' : Nat → Int32} {lab r : Int32} {sx st : Nat → Int32} (hV : V ≤ 8) (hR : pu_R V B n D px bf pl pv) (hn : n ≤ Q) (hlab : ∃ k, k < B ∧ lab = nI k)
    (hst : ∀ v, v < V → sx v = st v) (hst0 : ∀ v, v < 8 → (V ≤ v ∨ D v = true) → st v = 0) (h : pu_int V Q n px bf lab sx r n' px' bf') :
    (r = -1 ∧ (∀ q, q < n → ¬ pu_mt V pl pv q lab st) ∧ ¬ n < Q) ∨
    (∃ q pl' pv', q < n' ∧ r = nI q ∧ pu_R V B n' D px' bf' pl' pv' ∧ pu_mt V pl' pv' q lab st ∧ n' ≤ Q ∧ pu_mo n n' pl pv pl' pv' ∧ pu_yo V n n' Q pl pv pl' pv' lab st) := by
  obtain ⟨hpt, hpx, hbf⟩ := hR
  have heq : ∀ q, q < n → (pu_mt V px bf q lab sx ↔ pu_mt V pl pv q lab st) := by
    intro q hq
    unfold pu_mt
    rw [hpx q hq]
    constructor
    · intro ⟨a, b⟩; exact ⟨a, fun v hv => (hbf q v hq hv).symm.trans ((b v hv).trans (hst v hv))⟩
    · intro ⟨a, b⟩; exact ⟨a, fun v hv => (hbf q v hq hv).trans ((b v hv).trans (hst v hv).symm)⟩
  rcases h with ⟨q, hq, er, hm, rfl, rfl, rfl⟩ | ⟨hno, hlt, er, rfl, rfl, hb1, hb2⟩ | ⟨hno, hlt, er, _⟩
  · have hm' := (heq q hq).mp hm
    exact Or.inr ⟨q, pl, pv, hq, er, ⟨hpt, hpx, hbf⟩, hm', hn, ⟨Nat.le_refl _, fun _ _ => rfl, fun _ _ _ _ => rfl⟩, Or.inl ⟨rfl, rfl, rfl, q, hq, hm'⟩⟩
  · have hno' : ∀ q, q < n → ¬ pu_mt V pl pv q lab st := fun q hq z => hno q hq ((heq q hq).mpr z)
    have g1 : ∀ v, v < 8 → pu_gl pv (n * 8) 8 st (n * 8 + v) = st v := fun v hv => gl_in hv
    have g2 : ∀ p v, p < n → v < 8 → pu_gl pv (n * 8) 8 st (p * 8 + v) = pv (p * 8 + v) := fun p v hp hv => gl_out (by omega)
    have hmn : pu_mt V (upd pl n lab) (pu_gl pv (n * 8) 8 st) n lab st := ⟨pk_us, fun v hv => g1 v (by omega)⟩
    have hback : ∀ q, q < n → (∀ v, v < V → pu_gl pv (n * 8) 8 st (q * 8 + v) = pu_gl pv (n * 8) 8 st (n * 8 + v)) → pl q = lab → False := by
      intro q hq h1 h2
      exact hno' q hq ⟨h2, fun v hv => by rw [← g2 q v hq (by omega), h1 v hv, g1 v (by omega)]⟩
    refine Or.inr ⟨n, upd pl n lab, pu_gl pv (n * 8) 8 st, by omega, er, ⟨⟨?_, ?_, ?_⟩, ?_, ?_⟩, hmn, by omega, ⟨by omega, fun p hp => pk_un (by omega), g2⟩, Or.inr ⟨hno', hlt, rfl, rfl, rfl⟩⟩
    · intro p hp
      by_cases e : p = n
      · rw [e, pk_us]; exact hlab
      · rw [pk_un e]; exact hpt.1 p (by omega)
    · intro p v hp hv hz
      by_cases e : p = n
      · rw [e, g1 v hv]; exact hst0 v hv hz
      · rw [g2 p v (by omega) hv]; exact hpt.2.1 p v (by omega) hv hz
    · intro p q hp hq e1 e2
      by_cases ep : p = n
      · by_cases eq : q = n
        · rw [ep, eq]
        · rw [ep, pk_us, pk_un eq] at e1
          rw [ep] at e2
          exact absurd (hback q (by omega) (fun v hv => (e2 v hv).symm) e1.symm) id
      · by_cases eq : q = n
        · rw [eq, pk_us, pk_un ep] at e1
          rw [eq] at e2
          exact absurd (hback p (by omega) e2 e1) id
        · rw [pk_un ep, pk_un eq] at e1
          refine hpt.2.2 p q (by omega) (by omega) e1 (fun v hv => ?_)
          rw [← g2 p v (by omega) (by omega), ← g2 q v (by omega) (by omega)]; exact e2 v hv
    · intro p hp
      by_cases e : p = n
      · rw [e, pk_us, pk_us]
      · rw [pk_un e, pk_un e]; exact hpx p (by omega)
    · intro p v hp hv
      by_cases e : p = n
      · rw [e, hb1 v hv, g1 v (by omega)]; exact hst v hv
      · rw [hb2 _ (by omega), g2 p v (by omega) (by omega)]; exact hbf p v (by omega) hv
  · exact Or.inl ⟨er, fun q hq z => hno q hq ((heq q hq).mpr z), hlt⟩
section
variable {V B L Q n : Nat} {g_cursor g_points g_dyn g_at g_place : Int32} {b_code b_size b_rom b_init b_marked b_pLabel b_pVal b_status b_result b_forks b_outs b_out b_val : Nat → Int32} {sz : Nat → Nat} {stmt cnt term : Nat → Int32} {D : Nat → Bool}
theorem yw_targetE {post : Int32 → SY → Prop} {p : Nat} {x2 : Int32} {s : Bool} (hs : pu_src V B L sz b_code stmt cnt term) (hbs : b_size = cnt) (hV : V ≤ 8) (hL : L ≤ 6) (hB : B ≤ 16) (hn : n ≤ 32) (hp : p < n) (hpt : pu_pt V B n D b_pLabel b_pVal) (hD : ∀ v, v < V → pu_has g_dyn (nI v) = D v)
    (hx : x2 = 0 ↔ s = false)
    (K : post (pu_tl b_code sz D (b_pLabel p).toNatClampNeg (pu_sb b_code b_rom sz D b_pLabel b_pVal p) s) ((nI V), (nI B), (nI L), (nI Q), g_cursor, g_points, g_dyn, g_at, g_place, b_code, b_size, b_rom, b_init, b_marked, b_pLabel, b_pVal, b_status, b_result, b_forks, b_outs, b_out, (pu_gl b_val 16 8 (pu_sb b_code b_rom sz D b_pLabel b_pVal p)))) : wpY_target post ((nI V), (nI B), (nI L), (nI Q), g_cursor, g_points, g_dyn, g_at, g_place, b_code, b_size, b_rom, b_init, b_marked, b_pLabel, b_pVal, b_status, b_result, b_forks, b_outs, b_out, b_val) (nI p) x2 := by
  obtain ⟨l, hl, e⟩ := hpt.1 p hp
  unfold pu_sb at K
  rw [e, nI_clamp (by omega)] at K
  refine yw_target hs hbs hV hL (by omega) (by omega) e hD hx (fun w h1 h2 h3 => ?_)
  rw [gl_eq (a := b_val) (k := 16) (N := 8) h1 (fun j hj => by rcases hj with z | z; exact h2 j z; exact h3 j z)]
  exact K
theorem yw_97 {post : Int32 → SY → Prop} {J64 J80 : Int32 → Int32 → Int32 → Int32 → Int32 → Int32 → Int32 → Int32 → Int32 → Int32 → (Nat → Int32) → (Nat → Int32) → (Nat → Int32) → (Nat → Int32) → (Nat → Int32) → (Nat → Int32) → (Nat → Int32) → (Nat → Int32) → (Nat → Int32) → (Nat → Int32) → (Nat → Int32) → (Nat → Int32) → (Nat → Int32) → Prop} {p k : Nat} {x2 : Int32} {s : Bool} (hs : pu_src V B L sz b_code stmt cnt term) (hbs : b_size = cnt) (hV : V ≤ 8) (hL : L ≤ 6) (hB : B ≤ 16) (hn : n ≤ Q) (hQ : Q ≤ 32) (hp : p < n)
    (hpt : pu_pt V B n D b_pLabel b_pVal) (hD : ∀ v, v < V → pu_has g_dyn (nI v) = D v) (hx : x2 = 0 ↔ s = false)
    (K : (pu_tl b_code sz D (b_pLabel p).toNatClampNeg (pu_sb b_code b_rom sz D b_pLabel b_pVal p) s < 0 ∧ J80 (nI (k + 1)) (nI V) (nI B) (nI L) (nI Q) g_cursor (nI n) g_dyn g_at g_place b_code b_size b_rom b_init b_marked b_pLabel b_pVal b_status b_result b_forks b_outs b_out (pu_gl b_val 16 8 (pu_sb b_code b_rom sz D b_pLabel b_pVal p))) ∨
      (¬ pu_tl b_code sz D (b_pLabel p).toNatClampNeg (pu_sb b_code b_rom sz D b_pLabel b_pVal p) s < 0 ∧ ∃ n' pl' pv', pu_yo V n n' Q b_pLabel b_pVal pl' pv' (pu_tl b_code sz D (b_pLabel p).toNatClampNeg (pu_sb b_code b_rom sz D b_pLabel b_pVal p) s) (pu_sb b_code b_rom sz D b_pLabel b_pVal p) ∧
        J80 (nI (k + 1)) (nI V) (nI B) (nI L) (nI Q) g_cursor (nI n') g_dyn g_at g_place b_code b_size b_rom b_init b_marked pl' pv' b_status b_result b_forks b_outs b_out (pu_gl b_val 16 8 (pu_sb b_code b_rom sz D b_pLabel b_pVal p))) ∨
      (¬ pu_tl b_code sz D (b_pLabel p).toNatClampNeg (pu_sb b_code b_rom sz D b_pLabel b_pVal p) s < 0 ∧ (∀ q, q < n → ¬ pu_mt V b_pLabel b_pVal q (pu_tl b_code sz D (b_pLabel p).toNatClampNeg (pu_sb b_code b_rom sz D b_pLabel b_pVal p) s) (pu_sb b_code b_rom sz D b_pLabel b_pVal p)) ∧ ¬ n < Q ∧
        post (-4) ((nI V), (nI B), (nI L), (nI Q), g_cursor, 0, g_dyn, g_at, g_place, b_code, b_size, b_rom, b_init, b_marked, b_pLabel, b_pVal, (upd b_status 0 0), b_result, b_forks, b_outs, b_out, (pu_gl b_val 16 8 (pu_sb b_code b_rom sz D b_pLabel b_pVal p))))) :
    wY_specialise_97 post J64 J80 (nI p) (nI k) x2 (nI p) (nI V) (nI B) (nI L) (nI Q) g_cursor (nI n) g_dyn g_at g_place b_code b_size b_rom b_init b_marked b_pLabel b_pVal b_status b_result b_forks b_outs b_out b_val := by
  have h0 := sb_0 (rom := b_rom) hs hV hB hpt hp
  unfold wY_specialise_97
  refine yw_targetE hs hbs hV hL hB (by omega) hp hpt hD hx ?_
  rcases K with ⟨a, K⟩ | ⟨a, n', pl', pv', hy, K⟩ | ⟨a, hno, hf, K⟩
  · exact br_t a (nm_r (ar_a1 k) K)
  · refine br_f a ?_
    rcases hy with ⟨rfl, rfl, rfl, q, hq, hm⟩ | ⟨hno, hlt, rfl, rfl, rfl⟩
    · refine yw_find (by omega) hV (fun p v a b c => hpt.2.1 p v a b (Or.inl c)) (fun v hv => gl_in hv) (fun v a b => h0 v a (Or.inl b)) (fun q' hq' hm' => br_t (nI_pos' (by omega)) (nm_r (ar_a1 k) K)) (fun hno => absurd hm (hno q hq))
    · refine yw_find (by omega) hV (fun p v a b c => hpt.2.1 p v a b (Or.inl c)) (fun v hv => gl_in hv) (fun v a b => h0 v a (Or.inl b)) (fun q' hq' hm' => absurd hm' (hno q' hq')) (fun _ => br_f ar_neg1 (br_t (nI_lt hlt (by omega)) ?_))
      refine yw_add (by omega) (fun pv' h1 h2 => nm_r (ar_a1 k) ?_)
      rw [gl_eq (a := b_pVal) (k := n * 8) (N := 8) (fun v hv => (h1 v hv).trans (gl_in hv)) h2]
      exact K
  · refine br_f a (yw_find (by omega) hV (fun p v a b c => hpt.2.1 p v a b (Or.inl c)) (fun v hv => gl_in hv) (fun v a b => h0 v a (Or.inl b)) (fun q' hq' hm' => absurd hm' (hno q' hq')) (fun _ => br_f ar_neg1 (br_f (nI_nlt (by omega) (by omega)) (yw_drop K))))
end
end
section
theorem gl_gl {a f : Nat → Int32} {k N : Nat} : pu_gl (pu_gl a k N f) k N f = pu_gl a k N f := by
  funext j
  by_cases z : k ≤ j ∧ j < k + N
  · obtain ⟨v, rfl⟩ : ∃ v, j = k + v := ⟨j - k, by omega⟩
    rw [gl_in (by omega), gl_in (by omega)]
  · rw [gl_out (by omega)]
section
variable {V B L Q n : Nat} {g_cursor g_points g_dyn g_at g_place : Int32} {b_code b_size b_rom b_init b_marked b_pLabel b_pVal b_status b_result b_forks b_outs b_out b_val : Nat → Int32} {sz : Nat → Nat} {stmt cnt term : Nat → Int32} {D : Nat → Bool}
/-- the reference at one point: the two targets -/
theorem yw_64s {post : Int32 → SY → Prop} {c m : Nat} (hs : pu_src V B L sz b_code stmt cnt term) (hbs : b_size = cnt) (hV : V ≤ 8) (hL : L ≤ 6) (hB : B ≤ 16) (hn : n ≤ Q) (hQ : Q ≤ 32) (hp : c < n)
    (hpt : pu_pt V B n D b_pLabel b_pVal) (hD : ∀ v, v < V → pu_has g_dyn (nI v) = D v)
    (K : (pu_tl b_code sz D (b_pLabel c).toNatClampNeg (pu_sb b_code b_rom sz D b_pLabel b_pVal c) false < 0 ∧ pu_tl b_code sz D (b_pLabel c).toNatClampNeg (pu_sb b_code b_rom sz D b_pLabel b_pVal c) true < 0 ∧
        wY_specialise_64 post m (nI (c + 1)) (nI V) (nI B) (nI L) (nI Q) g_cursor (nI n) g_dyn g_at g_place b_code b_size b_rom b_init b_marked b_pLabel b_pVal b_status b_result b_forks b_outs b_out (pu_gl b_val 16 8 (pu_sb b_code b_rom sz D b_pLabel b_pVal c))) ∨
      (¬ pu_tl b_code sz D (b_pLabel c).toNatClampNeg (pu_sb b_code b_rom sz D b_pLabel b_pVal c) false < 0 ∧ ∃ n1 pl1 pv1, pu_yo V n n1 Q b_pLabel b_pVal pl1 pv1 (pu_tl b_code sz D (b_pLabel c).toNatClampNeg (pu_sb b_code b_rom sz D b_pLabel b_pVal c) false) (pu_sb b_code b_rom sz D b_pLabel b_pVal c) ∧
        pu_pt V B n1 D pl1 pv1 ∧ pu_mo n n1 b_pLabel b_pVal pl1 pv1 ∧ n1 ≤ Q ∧
        ((pu_tl b_code sz D (b_pLabel c).toNatClampNeg (pu_sb b_code b_rom sz D b_pLabel b_pVal c) true < 0 ∧ wY_specialise_64 post m (nI (c + 1)) (nI V) (nI B) (nI L) (nI Q) g_cursor (nI n1) g_dyn g_at g_place b_code b_size b_rom b_init b_marked pl1 pv1 b_status b_result b_forks b_outs b_out (pu_gl b_val 16 8 (pu_sb b_code b_rom sz D b_pLabel b_pVal c))) ∨
         (¬ pu_tl b_code sz D (b_pLabel c).toNatClampNeg (pu_sb b_code b_rom sz D b_pLabel b_pVal c) true < 0 ∧ ∃ n2 pl2 pv2, pu_yo V n1 n2 Q pl1 pv1 pl2 pv2 (pu_tl b_code sz D (b_pLabel c).toNatClampNeg (pu_sb b_code b_rom sz D b_pLabel b_pVal c) true) (pu_sb b_code b_rom sz D b_pLabel b_pVal c) ∧
           wY_specialise_64 post m (nI (c + 1)) (nI V) (nI B) (nI L) (nI Q) g_cursor (nI n2) g_dyn g_at g_place b_code b_size b_rom b_init b_marked pl2 pv2 b_status b_result b_forks b_outs b_out (pu_gl b_val 16 8 (pu_sb b_code b_rom sz D b_pLabel b_pVal c))) ∨
         (¬ pu_tl b_code sz D (b_pLabel c).toNatClampNeg (pu_sb b_code b_rom sz D b_pLabel b_pVal c) true < 0 ∧ (∀ q, q < n1 → ¬ pu_mt V pl1 pv1 q (pu_tl b_code sz D (b_pLabel c).toNatClampNeg (pu_sb b_code b_rom sz D b_pLabel b_pVal c) true) (pu_sb b_code b_rom sz D b_pLabel b_pVal c)) ∧ ¬ n1 < Q ∧
           post (-4) ((nI V), (nI B), (nI L), (nI Q), g_cursor, 0, g_dyn, g_at, g_place, b_code, b_size, b_rom, b_init, b_marked, pl1, pv1, (upd b_status 0 0), b_result, b_forks, b_outs, b_out, (pu_gl b_val 16 8 (pu_sb b_code b_rom sz D b_pLabel b_pVal c)))))) ∨
      (¬ pu_tl b_code sz D (b_pLabel c).toNatClampNeg (pu_sb b_code b_rom sz D b_pLabel b_pVal c) false < 0 ∧ (∀ q, q < n → ¬ pu_mt V b_pLabel b_pVal q (pu_tl b_code sz D (b_pLabel c).toNatClampNeg (pu_sb b_code b_rom sz D b_pLabel b_pVal c) false) (pu_sb b_code b_rom sz D b_pLabel b_pVal c)) ∧ ¬ n < Q ∧
        post (-4) ((nI V), (nI B), (nI L), (nI Q), g_cursor, 0, g_dyn, g_at, g_place, b_code, b_size, b_rom, b_init, b_marked, b_pLabel, b_pVal, (upd b_status 0 0), b_result, b_forks, b_outs, b_out, (pu_gl b_val 16 8 (pu_sb b_code b_rom sz D b_pLabel b_pVal c))))) :
    wY_specialise_64 post (m + 1) (nI c) (nI V) (nI B) (nI L) (nI Q) g_cursor (nI n) g_dyn g_at g_place b_code b_size b_rom b_init b_marked b_pLabel b_pVal b_status b_result b_forks b_outs b_out b_val := by
  have last : ∀ {g_points : Int32} {b_pLabel b_pVal b_val : Nat → Int32}, wY_specialise_64 post m (nI (c + 1)) (nI V) (nI B) (nI L) (nI Q) g_cursor g_points g_dyn g_at g_place b_code b_size b_rom b_init b_marked b_pLabel b_pVal b_status b_result b_forks b_outs b_out b_val → wY_specialise_80 post (wY_specialise_64 post m) (nI c) 1 (nI 2) (nI V) (nI B) (nI L) (nI Q) g_cursor g_points g_dyn g_at g_place b_code b_size b_rom b_init b_marked b_pLabel b_pVal b_status b_result b_forks b_outs b_out b_val :=
    fun K => br_t (Int32.le_refl _) (nm_r (ar_a1 c) K)
  refine br_f (nI_ge (by omega) (by omega)) (br_f (nI_ge (b := 32) (by omega) (by omega)) ⟨3, br_f (by decide) (br_f (by decide) ?_)⟩)
  refine yw_97 (k := 0) (s := false) hs hbs hV hL hB hn hQ hp hpt hD ⟨fun _ => rfl, fun _ => rfl⟩ ?_
  rcases K with ⟨a, b, K⟩ | ⟨a, n1, pl1, pv1, hy, hpt1, hmo, hn1, K⟩ | ⟨a, hno, hf, K⟩
  · refine Or.inl ⟨a, br_f (by decide) (br_t rfl ?_)⟩
    refine yw_97 (k := 1) (s := true) hs hbs hV hL hB hn hQ hp hpt hD ⟨fun z => absurd z (by decide), fun z => absurd z (by decide)⟩ (Or.inl ⟨b, ?_⟩)
    rw [gl_gl]
    exact last K
  · refine Or.inr (Or.inl ⟨a, n1, pl1, pv1, hy, br_f (by decide) (br_t rfl ?_)⟩)
    refine yw_97 (k := 1) (s := true) hs hbs hV hL hB hn1 hQ (Nat.lt_of_lt_of_le hp hmo.1) hpt1 hD ⟨fun z => absurd z (by decide), fun z => absurd z (by decide)⟩ ?_
    rw [sb_same (hmo.2.1 c hp) (fun v hv => hmo.2.2 c v hp hv), hmo.2.1 c hp, gl_gl]
    rcases K with ⟨b, K⟩ | ⟨b, n2, pl2, pv2, hy2, K⟩ | ⟨b, hno, hf, K⟩
    · exact Or.inl ⟨b, last K⟩
    · exact Or.inr (Or.inl ⟨b, n2, pl2, pv2, hy2, last K⟩)
    · exact Or.inr (Or.inr ⟨b, hno, hf, K⟩)
  · exact Or.inr (Or.inr ⟨a, hno, hf, K⟩)
theorem yw_64e {post : Int32 → SY → Prop} (K : post (nI n) ((nI V), (nI B), (nI L), (nI Q), g_cursor, (nI n), g_dyn, g_at, g_place, b_code, b_size, b_rom, b_init, b_marked, b_pLabel, b_pVal, b_status, b_result, b_forks, b_outs, b_out, b_val)) : wY_specialise_64 post 1 (nI n) (nI V) (nI B) (nI L) (nI Q) g_cursor (nI n) g_dyn g_at g_place b_code b_size b_rom b_init b_marked b_pLabel b_pVal b_status b_result b_forks b_outs b_out b_val := br_t (Int32.le_refl _) K
end
theorem xp_dn {V n p : Nat} {cd rom : Nat → Int32} {sz : Nat → Nat} {D : Nat → Bool} {pk pf ps af af' pk' pl pv : Nat → Int32} {r1 r2 : Int32} (h : pu_xp V p (pu_kd cd sz D (pl p).toNatClampNeg) (pu_sb cd rom sz D pl pv p) af pk af' pk')
    (h1 : pu_sc V n cd rom sz D pl pv p false r1) (h2 : pu_sc V n cd rom sz D pl pv p true r2) : pu_dn V n cd rom sz D pk' (upd pf p r1) (upd ps p r2) af' pl pv p :=
  ⟨h.2.2.1, h.1, by rw [pk_us]; exact h1, by rw [pk_us]; exact h2⟩
theorem ci_next {V B Q c n n' : Nat} {cd rom : Nat → Int32} {sz : Nat → Nat} {D : Nat → Bool} {px pk pf ps bf af pl pv px' pk' bf' af' pl' pv' : Nat → Int32} {r1 r2 : Int32} (hV : V ≤ 8) (hc : c < n) (h : pu_ci V B Q c n cd rom sz D px pk pf ps bf af pl pv)
    (hR : pu_R V B n' D px' bf' pl' pv') (hm : pu_mo n n' pl pv pl' pv') (hn' : n' ≤ Q) (hx : pu_xp V c (pu_kd cd sz D (pl c).toNatClampNeg) (pu_sb cd rom sz D pl pv c) af pk af' pk')
    (h1 : pu_sc V n' cd rom sz D pl' pv' c false r1) (h2 : pu_sc V n' cd rom sz D pl' pv' c true r2) :
    pu_ci V B Q (c + 1) n' cd rom sz D px' pk' (upd pf c r1) (upd ps c r2) bf' af' pl' pv' := by
  have hle := hm.1
  refine ⟨by omega, by have := h.2.1; omega, hn', hR, lt_s (fun p hp => ?_) ?_⟩
  · exact dn_mono hV (by omega) hm (hx.2.2.2 p (by omega)) (pk_un (by omega)) (pk_un (by omega)) (fun v hv => hx.2.1 _ (by omega)) (h.2.2.2.2 p hp)
  · refine xp_dn (af := af) (pk := pk) ?_ h1 h2
    rw [hm.2.1 c hc, sb_same (hm.2.1 c hc) (fun v hv => hm.2.2 c v hc hv)]
    exact hx
section
variable {V B L Q n : Nat} {f_residualMachine f_directMachine f_work f_opMove f_opOut f_countCap f_cursorLabel f_residual f_found f_codeSize : Int32} {a_stmt a_stmtCount a_term a_rom a_initial a_marked a_uses a_dist a_ptLabel a_ptKind a_ptFirst a_ptSecond a_before a_after a_exitOf a_head a_rankOf a_byRank a_codeStart a_codeEnd a_codeOp a_codeDst a_codeMode a_codeX a_codeY a_values a_status a_result a_forks a_outCount a_output a_place : Nat → Int32} {g_cursor g_points g_dyn g_at g_place : Int32} {b_code b_init b_marked b_pLabel b_pVal b_status b_result b_forks b_outs b_out b_val : Nat → Int32} {sz : Nat → Nat} {D : Nat → Bool} {YG : (Int32 → SY → Prop) → Prop} {pv0 : Nat → Int32}
theorem xw_c65f {post : Int32 → SX → Prop} {m : Nat} {x2 : Int32} (K : post 0 ((nI V), (nI B), (nI L), (nI Q), f_residualMachine, f_directMachine, f_work, f_opMove, f_opOut, f_countCap, f_cursorLabel, f_residual, f_found, f_codeSize, a_stmt, a_stmtCount, a_term, a_rom, a_initial, a_marked, a_uses, a_dist, a_ptLabel, a_ptKind, a_ptFirst, a_ptSecond, a_before, a_after, a_exitOf, a_head, a_rankOf, a_byRank, a_codeStart, a_codeEnd, a_codeOp, a_codeDst, a_codeMode, a_codeX, a_codeY, a_values, a_status, a_result, a_forks, a_outCount, a_output, a_place)) : wX_collectPoints_65 post (m + 1) 0 x2 (nI V) (nI B) (nI L) (nI Q) f_residualMachine f_directMachine f_work f_opMove f_opOut f_countCap f_cursorLabel f_residual f_found f_codeSize a_stmt a_stmtCount a_term a_rom a_initial a_marked a_uses a_dist a_ptLabel a_ptKind a_ptFirst a_ptSecond a_before a_after a_exitOf a_head a_rankOf a_byRank a_codeStart a_codeEnd a_codeOp a_codeDst a_codeMode a_codeX a_codeY a_values a_status a_result a_forks a_outCount a_output a_place := by
  refine br_c (fun _ => And.intro rfl K) (fun _ => br_c (fun _ => And.intro rfl K) (fun _ => br_t rfl (And.intro rfl K)))
theorem xw_c65e {post : Int32 → SX → Prop} {m : Nat} (K : post 1 ((nI V), (nI B), (nI L), (nI Q), f_residualMachine, f_directMachine, f_work, f_opMove, f_opOut, f_countCap, f_cursorLabel, f_residual, (nI n), f_codeSize, a_stmt, a_stmtCount, a_term, a_rom, a_initial, a_marked, a_uses, a_dist, a_ptLabel, a_ptKind, a_ptFirst, a_ptSecond, a_before, a_after, a_exitOf, a_head, a_rankOf, a_byRank, a_codeStart, a_codeEnd, a_codeOp, a_codeDst, a_codeMode, a_codeX, a_codeY, a_values, a_status, a_result, a_forks, a_outCount, a_output, a_place)) : wX_collectPoints_65 post (m + 1) 1 (nI n) (nI V) (nI B) (nI L) (nI Q) f_residualMachine f_directMachine f_work f_opMove f_opOut f_countCap f_cursorLabel f_residual (nI n) f_codeSize a_stmt a_stmtCount a_term a_rom a_initial a_marked a_uses a_dist a_ptLabel a_ptKind a_ptFirst a_ptSecond a_before a_after a_exitOf a_head a_rankOf a_byRank a_codeStart a_codeEnd a_codeOp a_codeDst a_codeMode a_codeX a_codeY a_values a_status a_result a_forks a_outCount a_output a_place := by
  refine br_c (fun _ => And.intro rfl K) (fun _ => br_t (Int32.le_refl _) (And.intro rfl K))
theorem lk_collect {post : Int32 → SX → Prop} (hs : pu_src V B L sz b_code a_stmt a_stmtCount a_term) (hV : V ≤ 8) (hL : L ≤ 6) (hB : B ≤ 16) (hQ : Q ≤ 32)
    (hD : ∀ v, v < V → (0 ≤ a_dist v ↔ D v = true))
    (Kok : ∀ n px pk pf ps bf af w pl pv vl, (∀ j, j < 16 → w j = a_values j) → (∀ j, j < 16 → vl j = b_val j) → (∀ j, j < 8 → pv j = pv0 j) → pu_ci V B Q n n b_code a_rom sz D px pk pf ps bf af pl pv → (∀ postY : Int32 → SY → Prop, (∀ s, (∀ v, v < V → pu_has s (nI v) = D v) → postY (nI n) ((nI V), (nI B), (nI L), (nI Q), g_cursor, (nI n), s, g_at, g_place, b_code, a_stmtCount, a_rom, b_init, b_marked, pl, pv, b_status, b_result, b_forks, b_outs, b_out, vl)) → YG postY) →
      post 1 ((nI V), (nI B), (nI L), (nI Q), f_residualMachine, f_directMachine, f_work, f_opMove, f_opOut, f_countCap, f_cursorLabel, f_residual, (nI n), f_codeSize, a_stmt, a_stmtCount, a_term, a_rom, a_initial, a_marked, a_uses, a_dist, px, pk, pf, ps, bf, af, a_exitOf, a_head, a_rankOf, a_byRank, a_codeStart, a_codeEnd, a_codeOp, a_codeDst, a_codeMode, a_codeX, a_codeY, w, a_status, a_result, a_forks, a_outCount, a_output, a_place))
    (Kfail : ∀ fd px pk pf ps bf af w pl pv vl, (∀ j, j < 16 → w j = a_values j) → (∀ j, j < 16 → vl j = b_val j) → (∀ postY : Int32 → SY → Prop, (∀ s, (∀ v, v < V → pu_has s (nI v) = D v) → postY (-4) ((nI V), (nI B), (nI L), (nI Q), g_cursor, 0, s, g_at, g_place, b_code, a_stmtCount, a_rom, b_init, b_marked, pl, pv, (upd b_status 0 0), b_result, b_forks, b_outs, b_out, vl)) → YG postY) →
      post 0 ((nI V), (nI B), (nI L), (nI Q), f_residualMachine, f_directMachine, f_work, f_opMove, f_opOut, f_countCap, f_cursorLabel, f_residual, fd, f_codeSize, a_stmt, a_stmtCount, a_term, a_rom, a_initial, a_marked, a_uses, a_dist, px, pk, pf, ps, bf, af, a_exitOf, a_head, a_rankOf, a_byRank, a_codeStart, a_codeEnd, a_codeOp, a_codeDst, a_codeMode, a_codeX, a_codeY, w, a_status, a_result, a_forks, a_outCount, a_output, a_place)) :
    ∀ e c, c + e = 33 → ∀ n px pk pf ps bf af w pl pv vl, (∀ j, j < 16 → w j = a_values j) → (∀ j, j < 16 → vl j = b_val j) → (∀ j, j < 8 → pv j = pv0 j) → pu_ci V B Q c n b_code a_rom sz D px pk pf ps bf af pl pv →
      (∀ (postY : Int32 → SY → Prop) m, (∀ s, (∀ v, v < V → pu_has s (nI v) = D v) → wY_specialise_64 postY m (nI c) (nI V) (nI B) (nI L) (nI Q) g_cursor (nI n) s g_at g_place b_code a_stmtCount a_rom b_init b_marked pl pv b_status b_result b_forks b_outs b_out vl) → YG postY) →
      ∀ k, e < k → wX_collectPoints_65 post k 1 (nI c) (nI V) (nI B) (nI L) (nI Q) f_residualMachine f_directMachine f_work f_opMove f_opOut f_countCap f_cursorLabel f_residual (nI n) f_codeSize a_stmt a_stmtCount a_term a_rom a_initial a_marked a_uses a_dist px pk pf ps bf af a_exitOf a_head a_rankOf a_byRank a_codeStart a_codeEnd a_codeOp a_codeDst a_codeMode a_codeX a_codeY w a_status a_result a_forks a_outCount a_output a_place := by
  intro e
  induction e with
  | zero =>
    intro c hc n px pk pf ps bf af w pl pv vl hw hvl hp0 hci
    have := hci.1; have := hci.2.2.1; omega
  | succ e ih =>
    intro c hc n px pk pf ps bf af w pl pv vl hw hvl hp0 hci RY k hk
    obtain ⟨m, rfl⟩ : ∃ m, k = m + 1 := ⟨k - 1, by omega⟩
    have hcn := hci.1
    have hnQ := hci.2.2.1
    obtain ⟨hpt, hpx, hbf⟩ := hci.2.2.2.1
    by_cases hend : c = n
    · subst hend
      exact xw_c65e (Kok c px pk pf ps bf af w pl pv vl hw hvl hp0 hci (fun postY hY => RY postY 1 (fun s hs' => yw_64e (hY s hs'))))
    have hlt : c < n := by omega
    obtain ⟨l, hlB, el⟩ := hpt.1 c hlt
    have ecl : (nI l).toNatClampNeg = l := nI_clamp (by omega)
    have hkd := kd_cases (D := D) hs (show l < 16 by omega)
    have hlow : ∀ f : Nat → Int32, ∀ j, j < 16 → pu_gl vl 16 8 f j = b_val j := fun f j hj => (gl_out (by omega)).trans (hvl j hj)
    have step := fun (postY : Int32 → SY → Prop) (m : Nat) (s : Int32) (hDY : ∀ v, v < V → pu_has s (nI v) = D v) => yw_64s (g_dyn := s) (post := postY) (c := c) (m := m) (g_cursor := g_cursor) (g_at := g_at) (g_place := g_place) (b_rom := a_rom) (b_init := b_init) (b_marked := b_marked) (b_status := b_status) (b_result := b_result) (b_forks := b_forks) (b_outs := b_outs) (b_out := b_out) (b_val := vl) hs (rfl : a_stmtCount = a_stmtCount) hV hL hB hnQ hQ hlt hpt hDY
    have hst0 := sb_0 (rom := a_rom) hs hV hB hpt hlt
    have htl := fun s => tl_lab (D := D) hs (show l < 16 by omega) (pu_sb b_code a_rom sz D pl pv c) s
    have hneg : ∀ s, pu_tl b_code sz D l (pu_sb b_code a_rom sz D pl pv c) s = -1 → pu_tl b_code sz D l (pu_sb b_code a_rom sz D pl pv c) s < 0 := fun s e => by rw [e]; decide
    refine br_f (nI_ge (by omega) (by omega)) (br_f (nI_ge (by omega) (by omega)) (br_f (by decide) ?_))
    refine xw_expand (pl := pl) (pv := pv) hs hV hL hB hlt hnQ hQ hD hpt (hpx c hlt) (fun v hv => hbf c v hlt hv) (fun h0 w' hw' af' pk' hxp => ?_) (fun k3 w' hw' hst af' pk' hxp r n' px' bf' hi => ?_) (fun k4 w' hw' hst af' pk' hxp r n' px' bf' hi r2 n2 px2 bf2 hi2 => ?_)
    · -- no successor
      have h1 : pu_tl b_code sz D (pl c).toNatClampNeg (pu_sb b_code a_rom sz D pl pv c) true < 0 := by
        rw [el, ecl] at h0 ⊢
        rcases hkd with ⟨q, _⟩ | ⟨q, _⟩ | ⟨q, _⟩ | ⟨q, _⟩ | ⟨q, _⟩
        · unfold pu_tl; rw [q, if_neg (by decide), if_neg (fun z => absurd z.1 (by decide))]; decide
        · exact absurd h0 (tl_jump hs (by omega) hB q)
        · exact absurd h0 (tl_jump hs (by omega) hB q)
        · exact absurd h0 (tl_fork hs (by omega) hB false q)
        · unfold pu_tl; rw [q, if_neg (by decide), if_neg (fun z => absurd z.1 (by decide))]; decide
      refine nm_r (ar_a1 c) (ih (c + 1) (by omega) n px pk' _ _ bf af' w' pl pv (pu_gl vl 16 8 (pu_sb b_code a_rom sz D pl pv c)) (fun j hj => (hw' j hj).trans (hw j hj)) (hlow _) hp0
        (ci_next hV hlt hci ⟨hpt, hpx, hbf⟩ ⟨Nat.le_refl _, fun _ _ => rfl, fun _ _ _ _ => rfl⟩ hnQ hxp (Or.inl ⟨h0, rfl⟩) (Or.inl ⟨h1, rfl⟩)) (fun postY m' hY => ?_) m (by omega))
      exact RY postY (m' + 1) (fun s hs' => step postY m' s hs' (Or.inl ⟨h0, h1, hY s hs'⟩))
    · -- a jump
      have hj : ¬ pu_tl b_code sz D (pl c).toNatClampNeg (pu_sb b_code a_rom sz D pl pv c) false < 0 := by
        rw [el, ecl] at k3 ⊢; exact tl_jump hs (by omega) hB k3
      have h1 : pu_tl b_code sz D (pl c).toNatClampNeg (pu_sb b_code a_rom sz D pl pv c) true < 0 := by
        rw [el, ecl] at k3 ⊢; unfold pu_tl; rw [k3, if_neg (by decide), if_neg (fun z => absurd z.2 (by decide))]; decide
      have hlab : ∃ k, k < B ∧ pu_tl b_code sz D (pl c).toNatClampNeg (pu_sb b_code a_rom sz D pl pv c) false = nI k := by
        rw [el, ecl] at hj ⊢; rcases htl false with z | z
        · exact absurd (hneg _ z) hj
        · exact z
      rcases lk_int hV ⟨hpt, hpx, hbf⟩ hnQ hlab hst hst0 hi with ⟨er, hno, hf⟩ | ⟨q, pl', pv', hq, er, hR', hm', hn', hmo, hyo⟩
      · rw [er, if_pos ar_neg2]
        exact nm_r (ar_a1 c) (by
          obtain ⟨m', rfl⟩ : ∃ m', m = m' + 1 := ⟨m - 1, by omega⟩
          exact xw_c65f (Kfail _ _ _ _ _ _ _ _ pl pv _ (fun j hj => (hw' j hj).trans (hw j hj)) (hlow _) (fun postY hY => RY postY 1 (fun s hs' => step postY 0 s hs' (Or.inr (Or.inr ⟨hj, hno, hf, hY s hs'⟩))))))
      · rw [er, if_neg (nI_pos (by omega))]
        have hsame := sb_same (cd := b_code) (rom := a_rom) (sz := sz) (D := D) (hmo.2.1 c hlt) (fun v hv => hmo.2.2 c v hlt hv)
        refine nm_r (ar_a1 c) (ih (c + 1) (by omega) n' px' pk' _ _ bf' af' w' pl' pv' (pu_gl vl 16 8 (pu_sb b_code a_rom sz D pl pv c)) (fun j hj => (hw' j hj).trans (hw j hj)) (hlow _) (fun j hj => ?_)
          (ci_next hV hlt hci hR' hmo hn' hxp (Or.inr ⟨q, hq, rfl, ?_⟩) (Or.inl ⟨?_, rfl⟩)) (fun postY m' hY => ?_) m (by omega))
        · have := hmo.2.2 0 j (by omega) (by omega)
          rw [Nat.zero_mul, Nat.zero_add] at this
          rw [this]; exact hp0 j hj
        · rw [hsame, hmo.2.1 c hlt]; exact hm'
        · rw [hsame, hmo.2.1 c hlt]; exact h1
        · exact RY postY (m' + 1) (fun s hs' => step postY m' s hs' (Or.inr (Or.inl ⟨hj, n', pl', pv', hyo, hR'.1, hmo, hn', Or.inl ⟨h1, hY s hs'⟩⟩)))
    · -- a fork
      have hj : ¬ pu_tl b_code sz D (pl c).toNatClampNeg (pu_sb b_code a_rom sz D pl pv c) false < 0 := by
        rw [el, ecl] at k4 ⊢; exact tl_fork hs (by omega) hB false k4
      have hj2 : ¬ pu_tl b_code sz D (pl c).toNatClampNeg (pu_sb b_code a_rom sz D pl pv c) true < 0 := by
        rw [el, ecl] at k4 ⊢; exact tl_fork hs (by omega) hB true k4
      have hlab : ∀ s, ¬ pu_tl b_code sz D (pl c).toNatClampNeg (pu_sb b_code a_rom sz D pl pv c) s < 0 → ∃ k, k < B ∧ pu_tl b_code sz D (pl c).toNatClampNeg (pu_sb b_code a_rom sz D pl pv c) s = nI k := by
        intro s hj; rw [el, ecl] at hj ⊢; rcases htl s with z | z
        · exact absurd (hneg _ z) hj
        · exact z
      rcases lk_int hV ⟨hpt, hpx, hbf⟩ hnQ (hlab false hj) hst hst0 hi with ⟨er, hno, hf⟩ | ⟨q, pl', pv', hq, er, hR', hm', hn', hmo, hyo⟩
      · rw [er, if_pos ar_neg2]
        exact nm_r (ar_a1 c) (by
          obtain ⟨m', rfl⟩ : ∃ m', m = m' + 1 := ⟨m - 1, by omega⟩
          exact xw_c65f (Kfail _ _ _ _ _ _ _ _ pl pv _ (fun j hj => (hw' j hj).trans (hw j hj)) (hlow _) (fun postY hY => RY postY 1 (fun s hs' => step postY 0 s hs' (Or.inr (Or.inr ⟨hj, hno, hf, hY s hs'⟩))))))
      · rw [er, if_neg (nI_pos (by omega))]
        rcases lk_int hV hR' hn' (hlab true hj2) hst hst0 hi2 with ⟨er2, hno2, hf2⟩ | ⟨q2, pl2, pv2, hq2, er2, hR2, hm2, hn2, hmo2, hyo2⟩
        · rw [er2, if_pos ar_neg2]
          exact nm_r (ar_a1 c) (by
            obtain ⟨m', rfl⟩ : ∃ m', m = m' + 1 := ⟨m - 1, by omega⟩
            exact xw_c65f (Kfail _ _ _ _ _ _ _ _ pl' pv' _ (fun j hj => (hw' j hj).trans (hw j hj)) (hlow _) (fun postY hY => RY postY 1 (fun s hs' => step postY 0 s hs' (Or.inr (Or.inl ⟨hj, n', pl', pv', hyo, hR'.1, hmo, hn', Or.inr (Or.inr ⟨hj2, hno2, hf2, hY s hs'⟩)⟩))))))
        · rw [er2, if_neg (nI_pos (by omega))]
          have hmo3 := mo_tr hmo hmo2
          have hsame := sb_same (cd := b_code) (rom := a_rom) (sz := sz) (D := D) (hmo3.2.1 c hlt) (fun v hv => hmo3.2.2 c v hlt hv)
          refine nm_r (ar_a1 c) (ih (c + 1) (by omega) n2 px2 pk' _ _ bf2 af' w' pl2 pv2 (pu_gl vl 16 8 (pu_sb b_code a_rom sz D pl pv c)) (fun j hj => (hw' j hj).trans (hw j hj)) (hlow _) (fun j hj => ?_)
            (ci_next hV hlt hci hR2 hmo3 hn2 hxp (Or.inr ⟨q, Nat.lt_of_lt_of_le hq hmo2.1, rfl, ?_⟩) (Or.inr ⟨q2, hq2, rfl, ?_⟩)) (fun postY m' hY => ?_) m (by omega))
          · have := hmo3.2.2 0 j (by omega) (by omega)
            rw [Nat.zero_mul, Nat.zero_add] at this
            rw [this]; exact hp0 j hj
          · rw [hsame, hmo3.2.1 c hlt]
            exact ⟨(hmo2.2.1 q hq).trans hm'.1, fun v hv => (hmo2.2.2 q v hq (by omega)).trans (hm'.2 v hv)⟩
          · rw [hsame, hmo3.2.1 c hlt]; exact hm2
          · exact RY postY (m' + 1) (fun s hs' => step postY m' s hs' (Or.inr (Or.inl ⟨hj, n', pl', pv', hyo, hR'.1, hmo, hn', Or.inr (Or.inl ⟨hj2, n2, pl2, pv2, hyo2, hY s hs'⟩)⟩)))
end
end
section
/-! the machines, purely -/
theorem e1_as {cd rom : Nat → Int32} {m r : Nat} {w : (Nat → Int32) × Int32 × (Nat → Int32)} (h : cd r = 1) : pu_e1 cd rom m r w = (upd w.1 (cd (r + 1)).toNatClampNeg (pu_ap rom (cd (r + 2)) (pu_ov w.1 (cd (r + 3))) (pu_ov w.1 (cd (r + 4)))), w.2.1, w.2.2) := if_pos h
theorem e1_em {cd rom : Nat → Int32} {m r : Nat} {w : (Nat → Int32) × Int32 × (Nat → Int32)} (h : cd r = 2) : pu_e1 cd rom m r w = (w.1, (if 1000000 ≤ w.2.1 then w.2.1 else w.2.1 + 1), (if 32 ≤ w.2.1 then w.2.2 else upd w.2.2 (m * 32 + w.2.1.toNatClampNeg) (pu_ov w.1 (cd (r + 1))))) := if_neg (by rw [h]; decide)
def pu_we (N : Nat) (w w' : (Nat → Int32) × Int32 × (Nat → Int32)) : Prop := (∀ v, v < N → w.1 v = w'.1 v) ∧ w.2 = w'.2
theorem en_ext {V N : Nat} {cd rom : Nat → Int32} {m l : Nat} {w w' : (Nat → Int32) × Int32 × (Nat → Int32)} (hV : V ≤ N) (hV8 : V ≤ 8) (h : pu_we N w w') :
    ∀ i, (∀ j, j < i → pu_row V cd (l * 35 + j * 5)) → pu_we N (pu_en cd rom m l w i) (pu_en cd rom m l w' i) := by
  intro i
  induction i with
  | zero => intro _; exact h
  | succ i ih =>
    intro hr
    obtain ⟨h1, h2⟩ := ih (fun j hj => hr j (by omega))
    show pu_we N (pu_e1 cd rom m (l * 35 + i * 5) (pu_en cd rom m l w i)) (pu_e1 cd rom m (l * 35 + i * 5) (pu_en cd rom m l w' i))
    unfold pu_e1
    rcases hr i (by omega) with ⟨r1, _, _, r3, r4⟩ | ⟨r2, ro⟩
    · rw [if_pos r1, if_pos r1]
      rw [ov_ext (st' := (pu_en cd rom m l w' i).1) hV8 r3 (fun v hv => h1 v (by omega)), ov_ext (st' := (pu_en cd rom m l w' i).1) hV8 r4 (fun v hv => h1 v (by omega))]
      refine ⟨fun v hv => ?_, h2⟩
      dsimp only
      by_cases z : v = (cd (l * 35 + i * 5 + 1)).toNatClampNeg
      · rw [z, pk_us, pk_us]
      · rw [pk_un z, pk_un z, h1 v hv]
    · have hne : ¬ cd (l * 35 + i * 5) = 1 := by rw [r2]; decide
      rw [if_neg hne, if_neg hne]
      rw [ov_ext (st' := (pu_en cd rom m l w' i).1) hV8 ro (fun v hv => h1 v (by omega)), h2]
      exact ⟨h1, rfl⟩
/-- what is dynamic by what is dynamic -/
def pu_cg (V : Nat) (cd : Nat → Int32) (sz : Nat → Nat) (D : Nat → Bool) : Prop :=
  ∀ l i, l < 16 → i < sz l → ∀ d u, d < V → u < V → cd (l * 35 + i * 5) = 1 → cd (l * 35 + i * 5 + 1) = nI d → (cd (l * 35 + i * 5 + 3) = nI u ∨ cd (l * 35 + i * 5 + 4) = nI u) → D u = true → D d = true
theorem en_stat {V : Nat} {cd rom : Nat → Int32} {sz : Nat → Nat} {D : Nat → Bool} {m l : Nat} {w : (Nat → Int32) × Int32 × (Nat → Int32)} {st : Nat → Int32} (hV : V ≤ 8) (hl : l < 16) (hr : ∀ j, j < sz l → pu_row V cd (l * 35 + j * 5)) (hcg : pu_cg V cd sz D)
    (h : ∀ v, v < V → D v = false → w.1 v = st v) : ∀ i, i ≤ sz l → ∀ v, v < V → D v = false → (pu_en cd rom m l w i).1 v = pu_sn cd rom D l st i v := by
  intro i
  induction i with
  | zero => intro _; exact h
  | succ i ih =>
    intro hi
    exact e1_stat hV (hr i (by omega)) (hcg l i hl (by omega)) (ih (by omega))
/-- the machine's state ahead of the k-th point of a chain -/
def pu_cw (cd rom : Nat → Int32) (sz : Nat → Nat) (pl F : Nat → Int32) (p : Nat) (w : (Nat → Int32) × Int32 × (Nat → Int32)) : Nat → ((Nat → Int32) × Int32 × (Nat → Int32))
  | 0 => w
  | k + 1 => pu_en cd rom 0 (pl (pu_ch F p k)).toNatClampNeg (pu_cw cd rom sz pl F p w k) (sz (pl (pu_ch F p k)).toNatClampNeg)
theorem cw_oc {cd rom : Nat → Int32} {sz : Nat → Nat} {pl F : Nat → Int32} {p : Nat} {w : (Nat → Int32) × Int32 × (Nat → Int32)} (h : pu_oc w.2.1) : ∀ k, pu_oc (pu_cw cd rom sz pl F p w k).2.1 := by
  intro k
  induction k with
  | zero => exact h
  | succ k ih => exact oc_en ih _
/-- the static part along a chain -/
theorem cw_stat {V B L n : Nat} {cd rom : Nat → Int32} {sz : Nat → Nat} {D : Nat → Bool} {pl pv F KD stmt cnt term : Nat → Int32} {p K : Nat} {w : (Nat → Int32) × Int32 × (Nat → Int32)} (hs : pu_src V B L sz cd stmt cnt term) (hV : V ≤ 8) (hB : B ≤ 16) (hn : n ≤ 32) (hpt : pu_pt V B n D pl pv) (hcg : pu_cg V cd sz D)
    (hF : ∀ q, q < n → pu_sc V n cd rom sz D pl pv q false (F q)) (hKD : ∀ q, q < n → KD q = pu_kd cd sz D (pl q).toNatClampNeg) (hp : p < n) (hK : ∀ j, j < K → KD (pu_ch F p j) = 3)
    (h : ∀ v, v < V → D v = false → w.1 v = pv (p * 8 + v)) : ∀ k, k ≤ K → pu_ch F p k < n ∧ ∀ v, v < V → D v = false → (pu_cw cd rom sz pl F p w k).1 v = pv (pu_ch F p k * 8 + v) := by
  intro k
  induction k with
  | zero => intro _; exact ⟨hp, h⟩
  | succ k ih =>
    intro hk
    obtain ⟨hc, ih⟩ := ih (by omega)
    obtain ⟨l, hl, el⟩ := hpt.1 _ hc
    have ecl : (nI l).toNatClampNeg = l := nI_clamp (by omega)
    have h3 := hKD _ hc
    rw [hK k (by omega), el, ecl] at h3
    have hj := tl_jump (st := pu_sb cd rom sz D pl pv (pu_ch F p k)) hs (show l < 16 by omega) hB h3.symm
    rcases hF _ hc with z | ⟨q, hq, e, hm⟩
    · rw [el, ecl] at z; exact absurd z.1 hj
    · have ech : pu_ch F p (k + 1) = q := by show (F (pu_ch F p k)).toNatClampNeg = q; rw [e, nI_clamp (by omega)]
      rw [ech]
      refine ⟨hq, fun v hv hD => ?_⟩
      rw [hm.2 v hv]
      unfold pu_sb
      show (pu_en cd rom 0 (pl (pu_ch F p k)).toNatClampNeg (pu_cw cd rom sz pl F p w k) (sz (pl (pu_ch F p k)).toNatClampNeg)).1 v = _
      rw [el, ecl]
      exact en_stat hV (by omega) (fun j hj => sr_row hs (by omega) hj) hcg (fun v hv hD => (ih v hv hD).trans (s0_at (by omega)).symm) (sz l) (Nat.le_refl _) v hv hD
/-- the static part behind the last point -/
theorem cw_end {V B L n : Nat} {cd rom : Nat → Int32} {sz : Nat → Nat} {D : Nat → Bool} {pl pv F KD stmt cnt term : Nat → Int32} {p K : Nat} {w : (Nat → Int32) × Int32 × (Nat → Int32)} (hs : pu_src V B L sz cd stmt cnt term) (hV : V ≤ 8) (hB : B ≤ 16) (hn : n ≤ 32) (hpt : pu_pt V B n D pl pv) (hcg : pu_cg V cd sz D)
    (hF : ∀ q, q < n → pu_sc V n cd rom sz D pl pv q false (F q)) (hKD : ∀ q, q < n → KD q = pu_kd cd sz D (pl q).toNatClampNeg) (hp : p < n) (hK : ∀ j, j < K → KD (pu_ch F p j) = 3)
    (h : ∀ v, v < V → D v = false → w.1 v = pv (p * 8 + v)) : ∀ v, v < V → D v = false → (pu_cw cd rom sz pl F p w (K + 1)).1 v = pu_sb cd rom sz D pl pv (pu_ch F p K) v := by
  obtain ⟨hc, ih⟩ := cw_stat hs hV hB hn hpt hcg hF hKD hp hK h K (Nat.le_refl _)
  obtain ⟨l, hl, el⟩ := hpt.1 _ hc
  have ecl : (nI l).toNatClampNeg = l := nI_clamp (by omega)
  intro v hv hD
  unfold pu_sb
  show (pu_en cd rom 0 (pl (pu_ch F p K)).toNatClampNeg (pu_cw cd rom sz pl F p w K) (sz (pl (pu_ch F p K)).toNatClampNeg)).1 v = _
  rw [el, ecl]
  exact en_stat hV (by omega) (fun j hj => sr_row hs (by omega) hj) hcg (fun v hv hD => (ih v hv hD).trans (s0_at (by omega)).symm) (sz l) (Nat.le_refl _) v hv hD
end
section
/-- the component's residual machine shows the pure one -/
def pu_xm (V : Nat) (D : Nat → Bool) (a_values a_outCount xv oc ou : Nat → Int32) (w : (Nat → Int32) × Int32 × (Nat → Int32)) : Prop :=
  (∀ v, v < V → D v = true → xv v = w.1 v) ∧ (∀ j, 8 ≤ j → xv j = a_values j) ∧ oc 0 = w.2.1 ∧ (∀ j, j ≠ 0 → oc j = a_outCount j) ∧ ou = w.2.2
section
variable {V B L Q n : Nat} {f_residualMachine f_directMachine f_work f_opMove f_opOut f_countCap f_cursorLabel f_residual f_found f_codeSize : Int32} {a_stmt a_stmtCount a_term a_rom a_initial a_marked a_uses a_dist a_ptLabel a_ptKind a_ptFirst a_ptSecond a_before a_after a_exitOf a_head a_rankOf a_byRank a_codeStart a_codeEnd a_codeOp a_codeDst a_codeMode a_codeX a_codeY a_values a_status a_result a_forks a_outCount a_output a_place : Nat → Int32} {sz : Nat → Nat} {cd pl pv : Nat → Int32} {D : Nat → Bool}
theorem xa_val {st W xv : Nat → Int32} {b md x a : Int32} (hV : V ≤ 8) (ho : pu_op V a) (hW : ∀ v, v < V → D v = true → xv v = W v) (hS : ∀ v, v < V → D v = false → W v = st v) (h : pu_xa V D st b md x a) :
    (¬ md &&& b = 0 ∧ vp_in x 24 ∧ xv x.toNatClampNeg = pu_ov W a) ∨ (md &&& b = 0 ∧ x = pu_ov W a) := by
  rcases h with ⟨h1, j, hj, ea, hD, ex⟩ | ⟨h1, h2, h3⟩
  · refine Or.inl ⟨h1, by rw [ex]; exact vp_in_nI (by omega) (by omega), ?_⟩
    rw [ex, ea, nI_clamp (by omega), ov_var (by omega)]; exact hW j hj hD
  · refine Or.inr ⟨h1, ?_⟩
    rw [h3]
    rcases ho with z | ⟨j, hj, rfl⟩
    · rw [ov_neg z, ov_neg z]
    · unfold pu_dyo at h2
      rw [decide_eq_true (nI_pos' (n := j) (by omega)), Bool.true_and, nI_clamp (by omega)] at h2
      rw [ov_var (by omega), ov_var (by omega)]; exact (hS j hj h2).symm
/-- one instruction -/
theorem xw_ins {post : SX → Prop} {J : Int32 → Int32 → Int32 → Int32 → Int32 → Int32 → Int32 → Int32 → Int32 → Int32 → Int32 → Int32 → Int32 → Int32 → Int32 → (Nat → Int32) → (Nat → Int32) → (Nat → Int32) → (Nat → Int32) → (Nat → Int32) → (Nat → Int32) → (Nat → Int32) → (Nat → Int32) → (Nat → Int32) → (Nat → Int32) → (Nat → Int32) → (Nat → Int32) → (Nat → Int32) → (Nat → Int32) → (Nat → Int32) → (Nat → Int32) → (Nat → Int32) → (Nat → Int32) → (Nat → Int32) → (Nat → Int32) → (Nat → Int32) → (Nat → Int32) → (Nat → Int32) → (Nat → Int32) → (Nat → Int32) → (Nat → Int32) → (Nat → Int32) → (Nat → Int32) → (Nat → Int32) → (Nat → Int32) → (Nat → Int32) → (Nat → Int32) → Prop} {k r : Nat} {st xv oc ou : Nat → Int32} {x2 : Int32} {w : (Nat → Int32) × Int32 × (Nat → Int32)} (hV : V ≤ 8) (hk : k < 6144) (hr : pu_row V cd r) (hm : pu_xm V D a_values a_outCount xv oc ou w) (hoc : pu_oc w.2.1)
    (hS : ∀ v, v < V → D v = false → w.1 v = st v) (hi : pu_ins V cd a_rom D r st (a_codeOp k) (a_codeDst k) (a_codeMode k) (a_codeX k) (a_codeY k))
    (K : ∀ xv' oc' ou', pu_xm V D a_values a_outCount xv' oc' ou' (pu_e1 cd a_rom 0 r w) → J (nI (k + 1)) (nI V) (nI B) (nI L) (nI Q) f_residualMachine f_directMachine f_work f_opMove f_opOut f_countCap f_cursorLabel f_residual f_found f_codeSize a_stmt a_stmtCount a_term a_rom a_initial a_marked a_uses a_dist a_ptLabel a_ptKind a_ptFirst a_ptSecond a_before a_after a_exitOf a_head a_rankOf a_byRank a_codeStart a_codeEnd a_codeOp a_codeDst a_codeMode a_codeX a_codeY xv' a_status a_result a_forks oc' ou' a_place) :
    ((a_codeMode (nI k).toNatClampNeg &&& 1 = 0 → wX_runCode_55 post J x2 (nI k) (a_codeX (nI k).toNatClampNeg) (a_codeY (nI k).toNatClampNeg) (nI V) (nI B) (nI L) (nI Q) f_residualMachine f_directMachine f_work f_opMove f_opOut f_countCap f_cursorLabel f_residual f_found f_codeSize a_stmt a_stmtCount a_term a_rom a_initial a_marked a_uses a_dist a_ptLabel a_ptKind a_ptFirst a_ptSecond a_before a_after a_exitOf a_head a_rankOf a_byRank a_codeStart a_codeEnd a_codeOp a_codeDst a_codeMode a_codeX a_codeY xv a_status a_result a_forks oc ou a_place) ∧
     (¬ a_codeMode (nI k).toNatClampNeg &&& 1 = 0 → (vp_in (a_codeX (nI k).toNatClampNeg) 24 ∧ ∀ y, y = xv (a_codeX (nI k).toNatClampNeg).toNatClampNeg → wX_runCode_55 post J x2 (nI k) y (a_codeY (nI k).toNatClampNeg) (nI V) (nI B) (nI L) (nI Q) f_residualMachine f_directMachine f_work f_opMove f_opOut f_countCap f_cursorLabel f_residual f_found f_codeSize a_stmt a_stmtCount a_term a_rom a_initial a_marked a_uses a_dist a_ptLabel a_ptKind a_ptFirst a_ptSecond a_before a_after a_exitOf a_head a_rankOf a_byRank a_codeStart a_codeEnd a_codeOp a_codeDst a_codeMode a_codeX a_codeY xv a_status a_result a_forks oc ou a_place))) := by
  have ek : (nI k).toNatClampNeg = k := nI_clamp (by omega)
  have ik : vp_in (nI k) 6144 := vp_in_nI hk (by omega)
  rw [ek]
  obtain ⟨m1, m2, m3, m4, m5⟩ := hm
  have sto : ∀ d x, d < V → (pu_e1 cd a_rom 0 r w) = (upd w.1 d x, w.2.1, w.2.2) → pu_xm V D a_values a_outCount (upd xv d x) oc ou (pu_e1 cd a_rom 0 r w) := by
    intro d x hd e
    rw [e]
    refine ⟨fun v hv hD => ?_, fun j hj => ?_, m3, m4, m5⟩
    · dsimp only
      by_cases z : v = d
      · rw [z, pk_us, pk_us]
      · rw [pk_un z, pk_un z]; exact m1 v hv hD
    · rw [pk_un (by omega)]; exact m2 j hj
  rcases hi with ⟨r2, eop, hx, hy2⟩ | ⟨r1, eds, eop, hx0, hy0, d3, d4, ex⟩ | ⟨r1, eds, eop, hx, hy⟩
  · -- output
    have ho : pu_op V (cd (r + 1)) := by
      rcases hr with h | h
      · exact absurd (h.1.symm.trans r2) (by decide)
      · exact h.2
    have fin : ∀ x y, x = pu_ov w.1 (cd (r + 1)) → wX_runCode_55 post J x2 (nI k) x y (nI V) (nI B) (nI L) (nI Q) f_residualMachine f_directMachine f_work f_opMove f_opOut f_countCap f_cursorLabel f_residual f_found f_codeSize a_stmt a_stmtCount a_term a_rom a_initial a_marked a_uses a_dist a_ptLabel a_ptKind a_ptFirst a_ptSecond a_before a_after a_exitOf a_head a_rankOf a_byRank a_codeStart a_codeEnd a_codeOp a_codeDst a_codeMode a_codeX a_codeY xv a_status a_result a_forks oc ou a_place := by
      intro x y ex
      refine And.intro ik (br_t (by rw [ek]; exact hy2) (And.intro ik (br_t (by rw [ek]; exact eop) (xw_send (m := 0) (by omega) (by rw [m3]; exact hoc) (nm_r (ar_a1 k) (K _ _ _ ?_))))))
      rw [e1_em r2]
      refine ⟨m1, m2, ?_, fun j hj => ?_, ?_⟩
      · rw [pk_us, m3]
      · rw [pk_un hj]; exact m4 j hj
      · rw [m3, m5, ex]
    rcases xa_val hV ho m1 hS hx with ⟨h1, h2, h3⟩ | ⟨h1, h2⟩
    · exact br_f h1 (And.intro h2 (nm_r h3 (fin _ _ rfl)))
    · exact br_t h1 (fin _ _ h2)
  · -- a folded constant
    rcases hr with ⟨_, ⟨d, hd, ed⟩, _, o3, o4⟩ | h
    · have es : ∀ o, pu_op V o → pu_dyo D o = false → pu_ov st o = pu_ov w.1 o := by
        intro o ho hd
        rcases ho with z | ⟨j, hj, rfl⟩
        · rw [ov_neg z, ov_neg z]
        · unfold pu_dyo at hd
          rw [decide_eq_true (nI_pos' (n := j) (by omega)), Bool.true_and, nI_clamp (by omega)] at hd
          rw [ov_var (by omega), ov_var (by omega)]; exact (hS j hj hd).symm
      have e10 : ¬ a_codeOp k = 11 := by rw [eop]; decide
      have edd : a_codeDst (nI k).toNatClampNeg = nI d := by rw [ek, eds, ed]
      refine br_t hx0 (And.intro ik (br_t (by rw [ek]; exact hy0) (And.intro ik (br_f (by rw [ek]; exact e10) (And.intro ik (br_t (by rw [ek]; exact eop) (And.intro ik (And.intro (by rw [edd]; exact vp_in_nI (by omega) (by omega)) (nm_r (e' := upd xv d (a_codeX k)) (by rw [edd, nI_clamp (by omega)]) (nm_r (ar_a1 k) (K _ _ _ (sto d _ hd ?_))))))))))))
      rw [e1_as r1, ed, nI_clamp (by omega), ex, es _ o3 d3, es _ o4 d4]
    · exact absurd (r1.symm.trans h.1) (by decide)
  · -- an operation
    rcases hr with ⟨_, ⟨d, hd, ed⟩, ⟨o, ho9, eo⟩, o3, o4⟩ | h
    · have edd : a_codeDst (nI k).toNatClampNeg = nI d := by rw [ek, eds, ed]
      have e11 : ¬ a_codeOp k = 11 := by rw [eop, eo]; exact fun z => by have := (nI_eq (b := 11) (by omega) (by omega)).mp z; omega
      have e10 : ¬ a_codeOp k = 10 := by rw [eop, eo]; exact fun z => by have := (nI_eq (b := 10) (by omega) (by omega)).mp z; omega
      have f75 : ∀ x y, x = pu_ov w.1 (cd (r + 3)) → y = pu_ov w.1 (cd (r + 4)) → wX_runCode_75 post J x2 (nI k) x y (nI V) (nI B) (nI L) (nI Q) f_residualMachine f_directMachine f_work f_opMove f_opOut f_countCap f_cursorLabel f_residual f_found f_codeSize a_stmt a_stmtCount a_term a_rom a_initial a_marked a_uses a_dist a_ptLabel a_ptKind a_ptFirst a_ptSecond a_before a_after a_exitOf a_head a_rankOf a_byRank a_codeStart a_codeEnd a_codeOp a_codeDst a_codeMode a_codeX a_codeY xv a_status a_result a_forks oc ou a_place := by
        intro x y ex ey
        refine And.intro ik (br_f (by rw [ek]; exact e11) (And.intro ik (br_f (by rw [ek]; exact e10) (And.intro ik (And.intro ik (xw_apply (by rw [ek, eop, eo]; exact nI_pos (by omega)) (And.intro (by rw [edd]; exact vp_in_nI (by omega) (by omega)) (nm_r (e' := upd xv d (pu_ap a_rom (a_codeOp k) x y)) (by rw [edd, nI_clamp (by omega), ek]) (nm_r (ar_a1 k) (K _ _ _ (sto d _ hd ?_)))))))))))
        rw [e1_as r1, ed, nI_clamp (by omega), eop, ex, ey]
      have f55 : ∀ x, x = pu_ov w.1 (cd (r + 3)) → wX_runCode_55 post J x2 (nI k) x (a_codeY k) (nI V) (nI B) (nI L) (nI Q) f_residualMachine f_directMachine f_work f_opMove f_opOut f_countCap f_cursorLabel f_residual f_found f_codeSize a_stmt a_stmtCount a_term a_rom a_initial a_marked a_uses a_dist a_ptLabel a_ptKind a_ptFirst a_ptSecond a_before a_after a_exitOf a_head a_rankOf a_byRank a_codeStart a_codeEnd a_codeOp a_codeDst a_codeMode a_codeX a_codeY xv a_status a_result a_forks oc ou a_place := by
        intro x ex
        refine And.intro ik ?_
        rw [ek]
        rcases xa_val hV o4 m1 hS hy with ⟨h1, h2, h3⟩ | ⟨h1, h2⟩
        · exact br_f h1 (And.intro h2 (nm_r h3 (f75 _ _ ex rfl)))
        · exact br_t h1 (f75 _ _ ex h2)
      rcases xa_val hV o3 m1 hS hx with ⟨h1, h2, h3⟩ | ⟨h1, h2⟩
      · exact br_f h1 (And.intro h2 (nm_r h3 (f55 _ rfl)))
      · exact br_t h1 (f55 _ h2)
    · exact absurd (r1.symm.trans h.1) (by decide)
/-- the code of one point -/
theorem xw_rpoint {post : SX → Prop} {l s E : Nat} {st0 : Nat → Int32} {w0 : (Nat → Int32) × Int32 × (Nat → Int32)} (hs : pu_src V B L sz cd a_stmt a_stmtCount a_term) (hV : V ≤ 8) (hl : l < 16) (hcg : pu_cg V cd sz D)
    (hE : s + pu_cc cd D l (sz l) ≤ E) (hE2 : E ≤ 6144) (hoc : pu_oc w0.2.1) (hS : ∀ v, v < V → D v = false → w0.1 v = st0 v) (hpc : pu_pc V cd a_rom D l st0 (sz l) s a_codeOp a_codeDst a_codeMode a_codeX a_codeY)
    (K : ∀ xv oc ou, pu_xm V D a_values a_outCount xv oc ou (pu_en cd a_rom 0 l w0 (sz l)) → ∀ n, E - (s + pu_cc cd D l (sz l)) < n → wX_runCode_14 post (nI E) n (nI (s + pu_cc cd D l (sz l))) (nI V) (nI B) (nI L) (nI Q) f_residualMachine f_directMachine f_work f_opMove f_opOut f_countCap f_cursorLabel f_residual f_found f_codeSize a_stmt a_stmtCount a_term a_rom a_initial a_marked a_uses a_dist a_ptLabel a_ptKind a_ptFirst a_ptSecond a_before a_after a_exitOf a_head a_rankOf a_byRank a_codeStart a_codeEnd a_codeOp a_codeDst a_codeMode a_codeX a_codeY xv a_status a_result a_forks oc ou a_place) :
    ∀ e i, i + e = sz l → ∀ xv oc ou, pu_xm V D a_values a_outCount xv oc ou (pu_en cd a_rom 0 l w0 i) → ∀ n, E - (s + pu_cc cd D l i) < n → wX_runCode_14 post (nI E) n (nI (s + pu_cc cd D l i)) (nI V) (nI B) (nI L) (nI Q) f_residualMachine f_directMachine f_work f_opMove f_opOut f_countCap f_cursorLabel f_residual f_found f_codeSize a_stmt a_stmtCount a_term a_rom a_initial a_marked a_uses a_dist a_ptLabel a_ptKind a_ptFirst a_ptSecond a_before a_after a_exitOf a_head a_rankOf a_byRank a_codeStart a_codeEnd a_codeOp a_codeDst a_codeMode a_codeX a_codeY xv a_status a_result a_forks oc ou a_place := by
  have hrow : ∀ j, j < sz l → pu_row V cd (l * 35 + j * 5) := fun j hj => sr_row hs hl hj
  intro e
  induction e with
  | zero =>
    intro i hi xv oc ou hm n hn
    obtain rfl : i = sz l := by omega
    exact K xv oc ou hm n hn
  | succ e ih =>
    intro i hi xv oc ou hm n hn
    have hst := en_stat (m := 0) (rom := a_rom) hV hl hrow hcg hS i (by omega)
    have hok := oc_en (cd := cd) (rom := a_rom) (m := 0) (l := l) hoc i
    have hmono := cc_mono cd D l (show i + 1 ≤ sz l by omega)
    have esucc : pu_cc cd D l (i + 1) = pu_cc cd D l i + (if pu_ns cd D (l * 35 + i * 5) = true then 1 else 0) := rfl
    by_cases hns : pu_ns cd D (l * 35 + i * 5) = true
    · rw [if_pos hns] at esucc
      obtain ⟨m, rfl⟩ : ∃ m, n = m + 1 := ⟨n - 1, by omega⟩
      have hk : s + pu_cc cd D l i < 6144 := by omega
      have ik : vp_in (nI (s + pu_cc cd D l i)) 6144 := vp_in_nI hk (by omega)
      refine br_f (nI_ge (by omega) (by omega)) (And.intro ik (nm_e (And.intro ik (nm_e (And.intro ik ?_)))))
      refine xw_ins hV hk (hrow i (by omega)) hm hok hst (hpc i (by omega) hns) (fun xv' oc' ou' hm' => ?_)
      have := ih (i + 1) (by omega) xv' oc' ou' hm' m (by omega)
      rw [esucc, ← Nat.add_assoc] at this
      exact this
    · rw [if_neg hns, Nat.add_zero] at esucc
      have hns := Bool.eq_false_iff.mpr hns
      unfold pu_ns at hns
      obtain ⟨n2, nD⟩ := Bool.or_eq_false_iff.mp hns
      have n2 := of_decide_eq_false n2
      rcases hrow i (by omega) with ⟨r1, ⟨d, hd, ed⟩, _⟩ | ⟨r2, _⟩
      · rw [ed, nI_clamp (by omega)] at nD
        have := ih (i + 1) (by omega) xv oc ou ?_ n (by rw [esucc]; exact hn)
        · rw [esucc] at this; exact this
        · show pu_xm V D a_values a_outCount xv oc ou (pu_e1 cd a_rom 0 (l * 35 + i * 5) (pu_en cd a_rom 0 l w0 i))
          rw [e1_as r1, ed, nI_clamp (by omega)]
          refine ⟨fun v hv hD => ?_, hm.2⟩
          dsimp only
          rw [pk_un (fun z => by rw [z, nD] at hD; exact absurd hD (by decide))]
          exact hm.1 v hv hD
      · exact absurd r2 n2
/-- the code of a head -/
theorem xw_runCode {post : SX → Prop} {p K s : Nat} {w0 : (Nat → Int32) × Int32 × (Nat → Int32)} (hs : pu_src V B L sz cd a_stmt a_stmtCount a_term) (hV : V ≤ 8) (hB : B ≤ 16) (hn : n ≤ 32) (hcg : pu_cg V cd sz D) (hpt : pu_pt V B n D pl pv)
    (hF : ∀ q, q < n → pu_sc V n cd a_rom sz D pl pv q false (a_ptFirst q)) (hKD : ∀ q, q < n → a_ptKind q = pu_kd cd sz D (pl q).toNatClampNeg) (hp : p < n) (hK : ∀ j, j < K → a_ptKind (pu_ch a_ptFirst p j) = 3)
    (hoc : pu_oc w0.2.1) (hS : ∀ v, v < V → D v = false → w0.1 v = pv (p * 8 + v)) (hm : pu_xm V D a_values a_outCount a_values a_outCount a_output w0)
    (h1 : a_codeStart p = nI s) (h2 : a_codeEnd p = nI (s + pu_of cd D sz pl a_ptFirst p (K + 1))) (h3 : s + pu_of cd D sz pl a_ptFirst p (K + 1) ≤ 6144) (hc : pu_cch V cd a_rom D sz pl pv a_ptFirst p (K + 1) s a_codeOp a_codeDst a_codeMode a_codeX a_codeY)
    (K0 : ∀ xv oc ou, pu_xm V D a_values a_outCount xv oc ou (pu_cw cd a_rom sz pl a_ptFirst p w0 (K + 1)) → post ((nI V), (nI B), (nI L), (nI Q), f_residualMachine, f_directMachine, f_work, f_opMove, f_opOut, f_countCap, f_cursorLabel, f_residual, f_found, f_codeSize, a_stmt, a_stmtCount, a_term, a_rom, a_initial, a_marked, a_uses, a_dist, a_ptLabel, a_ptKind, a_ptFirst, a_ptSecond, a_before, a_after, a_exitOf, a_head, a_rankOf, a_byRank, a_codeStart, a_codeEnd, a_codeOp, a_codeDst, a_codeMode, a_codeX, a_codeY, xv, a_status, a_result, a_forks, oc, ou, a_place)) : wpX_runCode post ((nI V), (nI B), (nI L), (nI Q), f_residualMachine, f_directMachine, f_work, f_opMove, f_opOut, f_countCap, f_cursorLabel, f_residual, f_found, f_codeSize, a_stmt, a_stmtCount, a_term, a_rom, a_initial, a_marked, a_uses, a_dist, a_ptLabel, a_ptKind, a_ptFirst, a_ptSecond, a_before, a_after, a_exitOf, a_head, a_rankOf, a_byRank, a_codeStart, a_codeEnd, a_codeOp, a_codeDst, a_codeMode, a_codeX, a_codeY, a_values, a_status, a_result, a_forks, a_outCount, a_output, a_place) (nI p) := by
  have ip : vp_in (nI p) 32 := vp_in_nI (by omega) (by omega)
  have ep : (nI p).toNatClampNeg = p := nI_clamp (by omega)
  have hcs := cw_stat (w := w0) hs hV hB hn hpt hcg hF hKD hp hK hS
  have key : ∀ e k, k + e = K + 1 → ∀ xv oc ou, pu_xm V D a_values a_outCount xv oc ou (pu_cw cd a_rom sz pl a_ptFirst p w0 k) → ∀ n, (s + pu_of cd D sz pl a_ptFirst p (K + 1)) - (s + pu_of cd D sz pl a_ptFirst p k) < n →
      wX_runCode_14 post (nI (s + pu_of cd D sz pl a_ptFirst p (K + 1))) n (nI (s + pu_of cd D sz pl a_ptFirst p k)) (nI V) (nI B) (nI L) (nI Q) f_residualMachine f_directMachine f_work f_opMove f_opOut f_countCap f_cursorLabel f_residual f_found f_codeSize a_stmt a_stmtCount a_term a_rom a_initial a_marked a_uses a_dist a_ptLabel a_ptKind a_ptFirst a_ptSecond a_before a_after a_exitOf a_head a_rankOf a_byRank a_codeStart a_codeEnd a_codeOp a_codeDst a_codeMode a_codeX a_codeY xv a_status a_result a_forks oc ou a_place := by
    intro e
    induction e with
    | zero =>
      intro k hk xv oc ou hm n hn
      obtain ⟨m, rfl⟩ : ∃ m, n = m + 1 := ⟨n - 1, by omega⟩
      obtain rfl : k = K + 1 := by omega
      exact br_t (Int32.le_refl _) (K0 xv oc ou hm)
    | succ e ih =>
      intro k hk xv oc ou hm n hn
      obtain ⟨hcn, hcs⟩ := hcs k (by omega)
      obtain ⟨l, hl, el⟩ := hpt.1 _ hcn
      have ecl : (nI l).toNatClampNeg = l := nI_clamp (by omega)
      have eof : pu_of cd D sz pl a_ptFirst p (k + 1) = pu_of cd D sz pl a_ptFirst p k + pu_cc cd D l (sz l) := by
        rw [show pu_of cd D sz pl a_ptFirst p (k + 1) = pu_of cd D sz pl a_ptFirst p k + pu_cc cd D (pl (pu_ch a_ptFirst p k)).toNatClampNeg (sz (pl (pu_ch a_ptFirst p k)).toNatClampNeg) from rfl, el, ecl]
      have hmo := of_mono cd D sz pl a_ptFirst p (show k + 1 ≤ K + 1 by omega)
      have ecw : pu_cw cd a_rom sz pl a_ptFirst p w0 (k + 1) = pu_en cd a_rom 0 l (pu_cw cd a_rom sz pl a_ptFirst p w0 k) (sz l) := by
        rw [show pu_cw cd a_rom sz pl a_ptFirst p w0 (k + 1) = pu_en cd a_rom 0 (pl (pu_ch a_ptFirst p k)).toNatClampNeg (pu_cw cd a_rom sz pl a_ptFirst p w0 k) (sz (pl (pu_ch a_ptFirst p k)).toNatClampNeg) from rfl, el, ecl]
      have hpc := hc k (by omega)
      rw [el, ecl] at hpc
      rw [show s + pu_of cd D sz pl a_ptFirst p k = s + pu_of cd D sz pl a_ptFirst p k + pu_cc cd D l 0 from rfl]
      refine xw_rpoint (s := s + pu_of cd D sz pl a_ptFirst p k) hs hV (show l < 16 by omega) hcg (by omega) h3 (cw_oc hoc k) (fun v hv hD => (hcs v hv hD).trans (s0_at (by omega)).symm) hpc (fun xv' oc' ou' hm' m hm2 => ?_) (sz l) 0 (by omega) xv oc ou hm n (by exact hn)
      · have := ih (k + 1) (by omega) xv' oc' ou' (by rw [ecw]; exact hm') m (by rw [eof, ← Nat.add_assoc]; exact hm2)
        rw [eof, ← Nat.add_assoc] at this
        exact this
  refine And.intro ip (nm_r (e' := nI (s + pu_of cd D sz pl a_ptFirst p (K + 1))) (by rw [ep, h2]) (And.intro ip (nm_r (e' := nI s) (by rw [ep, h1]) ⟨(s + pu_of cd D sz pl a_ptFirst p (K + 1)) + 1, ?_⟩)))
  exact key (K + 1) 0 (by omega) a_values a_outCount a_output hm _ (by show _ - (s + 0) < _; omega)
end
end
section
/-- the residual's facts -/
def pu_res (V B n : Nat) (cd rom : Nat → Int32) (sz : Nat → Nat) (D : Nat → Bool) (dyn : Int32) (px pk pf ps bf af ex hd ro br cs ce co cn cm cx cy pl pv : Nat → Int32) : Prop :=
  (1 ≤ n ∧ n ≤ 32) ∧ pu_R V B n D px bf pl pv ∧ (∀ p, p < n → pu_dn V n cd rom sz D pk pf ps af pl pv p) ∧ (∀ p, p < n → ro p = nI (pu_rk V n pl pv p)) ∧ (∀ p, p < n → br (pu_rk V n pl pv p) = nI p) ∧
  (∀ p, p < n → pu_ex n pf pk p (ex p)) ∧ (∀ p, p < n → (hd p = 1 ∧ pu_hd n pf ps pk p) ∨ (hd p = 0 ∧ ¬ pu_hd n pf ps pk p)) ∧ (∀ p, p < n → ¬ hd p = 0 → pu_hc V n cd rom D sz pl pv pf pk p 6144 cs ce co cn cm cx cy) ∧ (∀ v, v < V → pu_has dyn (nI v) = D v)
section
variable {V B L n : Nat} {cd rom : Nat → Int32} {sz : Nat → Nat} {D : Nat → Bool} {dyn : Int32} {px pk pf ps bf af ex hd ro br cs ce co cn cm cx cy pl pv stmt cnt term : Nat → Int32}
theorem rs_jump (h : pu_res V B n cd rom sz D dyn px pk pf ps bf af ex hd ro br cs ce co cn cm cx cy pl pv) (hs : pu_src V B L sz cd stmt cnt term) (hB : B ≤ 16) {p : Nat} (hp : p < n) (h3 : pk p = 3) : ∃ q, q < n ∧ pf p = nI q ∧ pu_mt V pl pv q (pu_tl cd sz D (pl p).toNatClampNeg (pu_sb cd rom sz D pl pv p) false) (pu_sb cd rom sz D pl pv p) := by
  obtain ⟨a, b, c, d⟩ := h.2.2.1 p hp
  obtain ⟨l, hl, el⟩ := h.2.1.1.1 p hp
  rcases c with z | ⟨q, hq, e, hm⟩
  · rw [h3, el, nI_clamp (by omega)] at a
    rw [el, nI_clamp (by omega)] at z
    exact absurd z.1 (tl_jump hs (by omega) hB a.symm)
  · exact ⟨q, hq, e, hm⟩
theorem rs_fork (h : pu_res V B n cd rom sz D dyn px pk pf ps bf af ex hd ro br cs ce co cn cm cx cy pl pv) (hs : pu_src V B L sz cd stmt cnt term) (hB : B ≤ 16) {p : Nat} (hp : p < n) (h4 : pk p = 4) (s : Bool) : ∃ q, q < n ∧ (if s = true then ps p else pf p) = nI q ∧ pu_mt V pl pv q (pu_tl cd sz D (pl p).toNatClampNeg (pu_sb cd rom sz D pl pv p) s) (pu_sb cd rom sz D pl pv p) := by
  obtain ⟨a, b, c, d⟩ := h.2.2.1 p hp
  obtain ⟨l, hl, el⟩ := h.2.1.1.1 p hp
  rw [h4, el, nI_clamp (by omega)] at a
  cases s
  · rcases c with z | ⟨q, hq, e, hm⟩
    · rw [el, nI_clamp (by omega)] at z
      exact absurd z.1 (tl_fork hs (by omega) hB false a.symm)
    · exact ⟨q, hq, by rw [if_neg (by decide)]; exact e, hm⟩
  · rcases d with z | ⟨q, hq, e, hm⟩
    · rw [el, nI_clamp (by omega)] at z
      exact absurd z.1 (tl_fork hs (by omega) hB true a.symm)
    · exact ⟨q, hq, by rw [if_pos rfl]; exact e, hm⟩
/-- the exit of p, and how far it is -/
theorem rs_exit (h : pu_res V B n cd rom sz D dyn px pk pf ps bf af ex hd ro br cs ce co cn cm cx cy pl pv) (hs : pu_src V B L sz cd stmt cnt term) (hB : B ≤ 16) {p : Nat} (hp : p < n) :
    (ex p = -1 ∧ ∀ k, pk (pu_ch pf p k) = 3 ∧ pu_ch pf p k < n) ∨ (∃ K, K < n ∧ (∀ j, j ≤ K → pu_ch pf p j < n) ∧ (∀ j, j < K → pk (pu_ch pf p j) = 3) ∧ pk (pu_ch pf p K) ≠ 3 ∧ ex p = nI (pu_ch pf p K)) := by
  have hF : ∀ p, p < n → pk p = 3 → ∃ q, q < n ∧ pf p = nI q := fun p hp h3 => by
    obtain ⟨q, hq, e, _⟩ := rs_jump h hs hB hp h3
    exact ⟨q, hq, e⟩
  rcases h.2.2.2.2.2.1 p hp with ⟨K, hK, h1, h2, e⟩ | ⟨h1, e⟩
  · refine Or.inr ⟨K, hK, ?_, h1, h2, e⟩
    intro k
    induction k with
    | zero => intro _; exact hp
    | succ k ih =>
      intro hk
      obtain ⟨q, hq, e⟩ := hF _ (ih (by omega)) (h1 k (by omega))
      show (pf (pu_ch pf p k)).toNatClampNeg < n
      have := h.1.2
      rw [e, nI_clamp (by omega)]; exact hq
  · exact Or.inl ⟨e, ch_all hF h.1.2 hp h1⟩
end
section
variable {V B L Q n : Nat} {f_residualMachine f_directMachine f_work f_opMove f_opOut f_countCap f_cursorLabel f_residual f_found f_codeSize : Int32} {a_stmt a_stmtCount a_term a_rom a_initial a_marked a_uses a_dist a_ptLabel a_ptKind a_ptFirst a_ptSecond a_before a_after a_exitOf a_head a_rankOf a_byRank a_codeStart a_codeEnd a_codeOp a_codeDst a_codeMode a_codeX a_codeY a_values a_status a_result a_forks a_outCount a_output a_place : Nat → Int32} {sz : Nat → Nat} {cd pl pv : Nat → Int32} {D : Nat → Bool} {dyn : Int32}
theorem xw_exitV {post : Int32 → Prop} {x : Nat} {o o' : Int32} {W : Nat → Int32} (eo : o' = o) (hV : V ≤ 8) (hx : x < 32) (ho : pu_op V o) (hD : ∀ v, v < V → (0 ≤ a_dist v ↔ D v = true)) (h1 : ∀ v, v < V → D v = true → a_values v = W v) (h2 : ∀ v, v < V → D v = false → W v = a_after (x * 8 + v))
    (K : post (pu_ov W o)) : wpX_exitValue post ((nI V), (nI B), (nI L), (nI Q), f_residualMachine, f_directMachine, f_work, f_opMove, f_opOut, f_countCap, f_cursorLabel, f_residual, f_found, f_codeSize, a_stmt, a_stmtCount, a_term, a_rom, a_initial, a_marked, a_uses, a_dist, a_ptLabel, a_ptKind, a_ptFirst, a_ptSecond, a_before, a_after, a_exitOf, a_head, a_rankOf, a_byRank, a_codeStart, a_codeEnd, a_codeOp, a_codeDst, a_codeMode, a_codeX, a_codeY, a_values, a_status, a_result, a_forks, a_outCount, a_output, a_place) (nI x) o' := by
  subst eo
  rcases ho with h | ⟨j, hj, rfl⟩
  · rw [ov_neg h] at K; exact br_f (ar_nle h) K
  · rw [ov_var (by omega)] at K
    have ej : (nI j).toNatClampNeg = j := nI_clamp (by omega)
    refine br_t (nI_pos' (by omega)) (And.intro (vp_in_nI (by omega) (by omega)) (br_c (fun g => ?_) (fun g => ?_)))
    · rw [ej] at g
      refine And.intro (by rw [ar_m8]; exact vp_in_nI (by omega) (by omega)) ?_
      rw [ar_m8, nI_clamp (by omega), ← h2 j hj (Bool.eq_false_iff.mpr (fun z => ar_nle g ((hD j hj).mpr z)))]
      exact K
    · rw [ej] at g
      refine And.intro (vp_in_nI (by omega) (by omega)) ?_
      rw [ej, h1 j hj ((hD j hj).mp (ar_lt g))]
      exact K
theorem xw_piece {post : Int32 → SX → Prop} {q : Nat} {w0 : (Nat → Int32) × Int32 × (Nat → Int32)} (hs : pu_src V B L sz cd a_stmt a_stmtCount a_term) (hV : V ≤ 8) (hL : L ≤ 6) (hB : B ≤ 16) (hcg : pu_cg V cd sz D)
    (hres : pu_res V B n cd a_rom sz D dyn a_ptLabel a_ptKind a_ptFirst a_ptSecond a_before a_after a_exitOf a_head a_rankOf a_byRank a_codeStart a_codeEnd a_codeOp a_codeDst a_codeMode a_codeX a_codeY pl pv)
    (hD : ∀ v, v < V → (0 ≤ a_dist v ↔ D v = true)) (hq : q < n) (hpl : a_place 0 = nI q) (hhd : ¬ a_head q = 0) (hoc : pu_oc w0.2.1) (hS : ∀ v, v < V → D v = false → w0.1 v = pv (q * 8 + v)) (hm : pu_xm V D a_values a_outCount a_values a_outCount a_output w0)
    (K5 : a_exitOf q = -1 → post 5 ((nI V), (nI B), (nI L), (nI Q), f_residualMachine, f_directMachine, f_work, f_opMove, f_opOut, f_countCap, f_cursorLabel, f_residual, f_found, f_codeSize, a_stmt, a_stmtCount, a_term, a_rom, a_initial, a_marked, a_uses, a_dist, a_ptLabel, a_ptKind, a_ptFirst, a_ptSecond, a_before, a_after, a_exitOf, a_head, a_rankOf, a_byRank, a_codeStart, a_codeEnd, a_codeOp, a_codeDst, a_codeMode, a_codeX, a_codeY, a_values, a_status, a_result, a_forks, a_outCount, a_output, a_place))
    (KK : ∀ K, K < n → (∀ j, j ≤ K → pu_ch a_ptFirst q j < n) → (∀ j, j < K → a_ptKind (pu_ch a_ptFirst q j) = 3) → a_ptKind (pu_ch a_ptFirst q K) ≠ 3 → ∀ xv oc ou, pu_xm V D a_values a_outCount xv oc ou (pu_cw cd a_rom sz pl a_ptFirst q w0 (K + 1)) → ∀ t, t = (pl (pu_ch a_ptFirst q K)).toNatClampNeg * 35 + sz (pl (pu_ch a_ptFirst q K)).toNatClampNeg * 5 →
      (a_ptKind (pu_ch a_ptFirst q K) = 5 → post 3 ((nI V), (nI B), (nI L), (nI Q), f_residualMachine, f_directMachine, f_work, f_opMove, f_opOut, f_countCap, f_cursorLabel, f_residual, f_found, f_codeSize, a_stmt, a_stmtCount, a_term, a_rom, a_initial, a_marked, a_uses, a_dist, a_ptLabel, a_ptKind, a_ptFirst, a_ptSecond, a_before, a_after, a_exitOf, a_head, a_rankOf, a_byRank, a_codeStart, a_codeEnd, a_codeOp, a_codeDst, a_codeMode, a_codeX, a_codeY, xv, a_status, (upd a_result 0 (pu_ov (pu_cw cd a_rom sz pl a_ptFirst q w0 (K + 1)).1 (cd (t + 1)))), a_forks, oc, ou, (upd a_place 0 (nI (pu_ch a_ptFirst q K))))) ∧
      (a_ptKind (pu_ch a_ptFirst q K) = 0 → post 4 ((nI V), (nI B), (nI L), (nI Q), f_residualMachine, f_directMachine, f_work, f_opMove, f_opOut, f_countCap, f_cursorLabel, f_residual, f_found, f_codeSize, a_stmt, a_stmtCount, a_term, a_rom, a_initial, a_marked, a_uses, a_dist, a_ptLabel, a_ptKind, a_ptFirst, a_ptSecond, a_before, a_after, a_exitOf, a_head, a_rankOf, a_byRank, a_codeStart, a_codeEnd, a_codeOp, a_codeDst, a_codeMode, a_codeX, a_codeY, xv, a_status, a_result, a_forks, oc, ou, (upd a_place 0 (nI (pu_ch a_ptFirst q K))))) ∧
      (a_ptKind (pu_ch a_ptFirst q K) = 4 → post 2 ((nI V), (nI B), (nI L), (nI Q), f_residualMachine, f_directMachine, f_work, f_opMove, f_opOut, f_countCap, f_cursorLabel, f_residual, f_found, f_codeSize, a_stmt, a_stmtCount, a_term, a_rom, a_initial, a_marked, a_uses, a_dist, a_ptLabel, a_ptKind, a_ptFirst, a_ptSecond, a_before, a_after, a_exitOf, a_head, a_rankOf, a_byRank, a_codeStart, a_codeEnd, a_codeOp, a_codeDst, a_codeMode, a_codeX, a_codeY, xv, a_status, a_result, (upd a_forks 0 (if 1000000 ≤ a_forks 0 then a_forks 0 else a_forks 0 + 1)), oc, ou, (upd (upd a_place 0 (nI (pu_ch a_ptFirst q K))) 0 (if pu_ov (pu_cw cd a_rom sz pl a_ptFirst q w0 (K + 1)).1 (cd (t + 1)) = 0 then a_ptSecond (pu_ch a_ptFirst q K) else a_ptFirst (pu_ch a_ptFirst q K)))))) :
    wpX_runPiece post ((nI V), (nI B), (nI L), (nI Q), f_residualMachine, f_directMachine, f_work, f_opMove, f_opOut, f_countCap, f_cursorLabel, f_residual, f_found, f_codeSize, a_stmt, a_stmtCount, a_term, a_rom, a_initial, a_marked, a_uses, a_dist, a_ptLabel, a_ptKind, a_ptFirst, a_ptSecond, a_before, a_after, a_exitOf, a_head, a_rankOf, a_byRank, a_codeStart, a_codeEnd, a_codeOp, a_codeDst, a_codeMode, a_codeX, a_codeY, a_values, a_status, a_result, a_forks, a_outCount, a_output, a_place) := by
  have hn := hres.1.2
  have hpt := hres.2.1.1
  have eq : (nI q).toNatClampNeg = q := nI_clamp (by omega)
  have hF := fun p hp => (hres.2.2.1 p hp).2.2.1
  have hKD := fun p hp => (hres.2.2.1 p hp).1
  refine nm_r hpl (And.intro (vp_in_nI (by omega) (by omega)) ?_)
  rcases rs_exit hres hs hB hq with ⟨e, _⟩ | ⟨K, hK, hch, hK1, hK2, e⟩
  · exact nm_r (e' := -1) (by rw [eq, e]) (br_f ar_neg1 (K5 e))
  have hx := hch K (Nat.le_refl _)
  obtain ⟨l, hl, el⟩ := hpt.1 _ hx
  have ecl : (nI l).toNatClampNeg = l := nI_clamp (by omega)
  have hxl : a_ptLabel (pu_ch a_ptFirst q K) = nI l := (hres.2.1.2.1 _ hx).trans el
  have hkd := hKD _ hx
  have haf := (hres.2.2.1 _ hx).2.1
  have hend := cw_end (w := w0) hs hV hB hn hpt hcg hF hKD hq hK1 hS
  have KK := KK K hK hch hK1 hK2
  obtain ⟨s, c1, c2, c3, c4⟩ := hres.2.2.2.2.2.2.2.1 q hq hhd K hK hK1 hK2
  refine nm_r (e' := nI (pu_ch a_ptFirst q K)) (by rw [eq, e]) (br_t (nI_pos' (by omega)) ?_)
  refine xw_runCode (pl := pl) (pv := pv) hs hV hB hn hcg hpt hF hKD hq hK1 hoc hS hm c1 c2 c3 c4 (fun xv oc ou hm' => ?_)
  have KK := KK xv oc ou hm' (l * 35 + sz l * 5) (by rw [el, ecl])
  generalize hw1 : pu_cw cd a_rom sz pl a_ptFirst q w0 (K + 1) = w1 at *
  generalize hxx : pu_ch a_ptFirst q K = x at *
  have ex : (nI x).toNatClampNeg = x := nI_clamp (by omega)
  have ix : vp_in (nI x) 32 := vp_in_nI (by omega) (by omega)
  rw [el, ecl] at hkd
  have T1 : a_term (a_ptLabel (nI x).toNatClampNeg * 5 + 1).toNatClampNeg = cd (l * 35 + sz l * 5 + 1) := by
    rw [ex, hxl, ar_m5, ar_a1, nI_clamp (by omega)]; exact sr_tm hs 1 (by omega) (by omega)
  have hst : ∀ v, v < V → D v = false → w1.1 v = a_after (x * 8 + v) := fun v hv hDv => (hend v hv hDv).trans (haf v hv).symm
  refine nm_r (e' := upd a_place 0 (nI x)) rfl (And.intro ix (And.intro (by rw [ex, hxl, ar_m5, ar_a1]; exact vp_in_nI (by omega) (by omega)) (nm_r T1 (And.intro ix ?_))))
  rw [ex]
  rcases kd_cases (D := D) hs (show l < 16 by omega) with ⟨k, _⟩ | ⟨k, _⟩ | ⟨k, _⟩ | ⟨k, t4, to, _⟩ | ⟨k, t5, to⟩
  · rw [k] at hkd
    refine br_f (by rw [hkd]; decide) (And.intro ix ?_)
    exact br_t hkd (KK.2.1 hkd)
  · exact absurd (hkd.trans k) hK2
  · exact absurd (hkd.trans k) hK2
  · rw [k] at hkd
    refine br_f (by rw [hkd]; decide) (And.intro ix (br_f (by rw [hkd]; decide) (xw_countFork (m := 0) (by omega) ?_)))
    refine xw_exitV rfl hV (by omega) to hD hm'.1 hst ?_
    have KK := KK.2.2 hkd
    refine br_c (fun y => ?_) (fun y => ?_)
    · rw [if_pos y] at KK
      exact br_t rfl (And.intro ix (nm_r (e' := upd (upd a_place 0 (nI x)) 0 (a_ptSecond x)) (by rw [ex]) KK))
    · rw [if_neg y] at KK
      exact br_f (by decide) (And.intro ix (nm_r (e' := upd (upd a_place 0 (nI x)) 0 (a_ptFirst x)) (by rw [ex]) KK))
  · rw [k] at hkd
    refine br_t hkd (xw_exitV rfl hV (by omega) to hD hm'.1 hst (nm_e (KK.1 hkd)))
end
end
section
/-- the reference's residual machine shows the pure one -/
def pu_ym (b_val b_outs vl os ou : Nat → Int32) (w : (Nat → Int32) × Int32 × (Nat → Int32)) : Prop :=
  (∀ v, v < 8 → vl v = w.1 v) ∧ (∀ j, 8 ≤ j → j < 16 → vl j = b_val j) ∧ os 0 = w.2.1 ∧ (∀ j, j ≠ 0 → os j = b_outs j) ∧ ou = w.2.2
section
variable {V B L Q n : Nat} {g_cursor g_points g_dyn g_at g_place : Int32} {b_code b_size b_rom b_init b_marked b_pLabel b_pVal b_status b_result b_forks b_outs b_out b_val : Nat → Int32} {sz : Nat → Nat} {stmt cnt term F S KD : Nat → Int32} {D : Nat → Bool}
/-- the reference at one point of the residual -/
theorem yw_pt {post : Int32 → SY → Prop} {y m c : Nat} {x2 : Int32} {vl os ou : Nat → Int32} {w : (Nat → Int32) × Int32 × (Nat → Int32)} (hs : pu_src V B L sz b_code stmt cnt term) (hbs : b_size = cnt) (hV : V ≤ 8) (hL : L ≤ 6) (hB : B ≤ 16) (hn : n ≤ 32) (hy : y < n) (hc : c < 600)
    (hpt : pu_pt V B n D b_pLabel b_pVal) (hD : ∀ v, v < V → pu_has g_dyn (nI v) = D v) (hF : ∀ p, p < n → pu_sc V n b_code b_rom sz D b_pLabel b_pVal p false (F p)) (hS : ∀ p, p < n → pu_sc V n b_code b_rom sz D b_pLabel b_pVal p true (S p))
    (hKD : ∀ q, q < n → KD q = pu_kd b_code sz D (b_pLabel q).toNatClampNeg) (hnd : ∃ k, k ≤ 32 ∧ pu_ch F y k < n ∧ KD (pu_ch F y k) ≠ 3) (hym : pu_ym b_val b_outs vl os ou w) (hoc : pu_oc w.2.1)
    (K0 : KD y = 0 → ∀ vl os ou, pu_ym b_val b_outs vl os ou (pu_en b_code b_rom 0 (b_pLabel y).toNatClampNeg w (sz (b_pLabel y).toNatClampNeg)) → post 4 ((nI V), (nI B), (nI L), (nI Q), g_cursor, (nI n), g_dyn, (nI y), g_place, b_code, b_size, b_rom, b_init, b_marked, b_pLabel, b_pVal, (upd b_status 0 4), b_result, b_forks, os, ou, vl))
    (K5 : KD y = 5 → ∀ vl os ou, pu_ym b_val b_outs vl os ou (pu_en b_code b_rom 0 (b_pLabel y).toNatClampNeg w (sz (b_pLabel y).toNatClampNeg)) → post 3 ((nI V), (nI B), (nI L), (nI Q), g_cursor, (nI n), g_dyn, (nI y), g_place, b_code, b_size, b_rom, b_init, b_marked, b_pLabel, b_pVal, (upd b_status 0 3), (upd b_result 0 (pu_ov (pu_en b_code b_rom 0 (b_pLabel y).toNatClampNeg w (sz (b_pLabel y).toNatClampNeg)).1 (b_code ((b_pLabel y).toNatClampNeg * 35 + sz (b_pLabel y).toNatClampNeg * 5 + 1)))), b_forks, os, ou, vl))
    (K3 : KD y = 3 → ∀ vl os ou, pu_ym b_val b_outs vl os ou (pu_en b_code b_rom 0 (b_pLabel y).toNatClampNeg w (sz (b_pLabel y).toNatClampNeg)) → wY_run_61 post m x2 (nI (c + 1)) (nI V) (nI B) (nI L) (nI Q) g_cursor (nI n) g_dyn (F y) g_place b_code b_size b_rom b_init b_marked b_pLabel b_pVal b_status b_result b_forks os ou vl)
    (K4 : KD y = 4 → ∀ vl os ou, pu_ym b_val b_outs vl os ou (pu_en b_code b_rom 0 (b_pLabel y).toNatClampNeg w (sz (b_pLabel y).toNatClampNeg)) → wY_run_245 post (wY_run_61 post m) x2 (nI c) (nI V) (nI B) (nI L) (nI Q) g_cursor (nI n) g_dyn (if pu_ov (pu_en b_code b_rom 0 (b_pLabel y).toNatClampNeg w (sz (b_pLabel y).toNatClampNeg)).1 (b_code ((b_pLabel y).toNatClampNeg * 35 + sz (b_pLabel y).toNatClampNeg * 5 + 1)) = 0 then S y else F y) g_place b_code b_size b_rom b_init b_marked b_pLabel b_pVal b_status b_result (upd b_forks 0 (if 1000000 ≤ b_forks 0 then b_forks 0 else b_forks 0 + 1)) os ou vl) :
    wY_run_61 post (m + 1) x2 (nI c) (nI V) (nI B) (nI L) (nI Q) g_cursor (nI n) g_dyn (nI y) g_place b_code b_size b_rom b_init b_marked b_pLabel b_pVal b_status b_result b_forks os ou vl := by
  obtain ⟨l, hl, el⟩ := hpt.1 y hy
  have ecl : (nI l).toNatClampNeg = l := nI_clamp (by omega)
  have ey : (nI y).toNatClampNeg = y := nI_clamp (by omega)
  have hkd := hKD y hy
  rw [el, ecl] at K0 K5 K3 K4 hkd
  obtain ⟨y1, y2, y3, y4, y5⟩ := hym
  refine br_f (nI_ge (b := 600) (by omega) (by omega)) (yw_doomed (F := F) hs hbs hV hL hB hn hy hpt hD hF (fun hall => ?_) (fun _ v1 hv1 => ?_))
  · obtain ⟨k, hk, hkn, hk3⟩ := hnd
    exact absurd ((hKD _ hkn).trans (hall k hk)) hk3
  refine br_t rfl (And.intro (vp_in_nI (by omega) (by omega)) (nm_r (e' := nI l) (by rw [ey, el]) (And.intro (vp_in_nI (by omega) (by omega)) (nm_r (e' := nI (l * 35 + sz l * 5)) (by rw [ecl, hbs, sr_cnt hs (by omega), ar_cd]) ?_))))
  refine yw_kind hs hbs hV hL (show l < 16 by omega) (by omega) el hD ?_
  refine yw_execm (m := 0) hs hbs hV hL (show l < 16 by omega) (by omega) (by rw [y3]; exact hoc) (fun v2 o2 u2 hen h3 h4 => ?_)
  have hwe : pu_we 8 ((fun v => v1 (0 * 8 + v)), os 0, ou) w := ⟨fun v hv => by show v1 (0 * 8 + v) = _; rw [Nat.zero_mul, Nat.zero_add, hv1 v (by omega)]; exact y1 v hv, by rw [y3, y5]⟩
  have hext := en_ext (rom := b_rom) (m := 0) hV hV hwe (sz l) (fun j hj => sr_row hs (show l < 16 by omega) hj)
  rw [← hen] at hext
  obtain ⟨e1, e2⟩ := hext
  dsimp only at e1 e2
  have hym2 : pu_ym b_val b_outs v2 o2 u2 (pu_en b_code b_rom 0 l w (sz l)) := by
    refine ⟨fun v hv => ?_, fun j h8 h16 => ?_, ?_, fun j hj => (h4 j hj).trans (y4 j hj), ?_⟩
    · have := e1 v hv; rw [Nat.zero_mul, Nat.zero_add] at this; exact this
    · rw [h3 j (by omega), hv1 j h16]; exact y2 j h8 h16
    · rw [← e2]
    · rw [← e2]
  have tail : ∀ v3 : Nat → Int32, (∀ j, j < 16 → v3 j = v2 j) → pu_ym b_val b_outs v3 o2 u2 (pu_en b_code b_rom 0 l w (sz l)) := by
    intro v3 h
    exact ⟨fun v hv => (h v (by omega)).trans (hym2.1 v hv), fun j h8 h16 => (h j h16).trans (hym2.2.1 j h8 h16), hym2.2.2⟩
  have vp0 : vp_in (nI 0) 2 := vp_in_nI (by omega) (by omega)
  have T1 : (nI (l * 35 + sz l * 5) + 1).toNatClampNeg = l * 35 + sz l * 5 + 1 := by
    have := sr_sz hs (show l < 16 by omega)
    rw [ar_a1, nI_clamp (by omega)]
  have i1 : vp_in (nI (l * 35 + sz l * 5) + 1) 560 := by
    have := sr_sz hs (show l < 16 by omega)
    rw [ar_a1]; exact vp_in_nI (by omega) (by omega)
  have hov : ∀ o, pu_op V o → pu_ov (fun v => v2 (0 * 8 + v)) o = pu_ov (pu_en b_code b_rom 0 l w (sz l)).1 o := fun o ho => ov_ext hV ho (fun v hv => by rw [Nat.zero_mul, Nat.zero_add]; exact hym2.1 v (by omega))
  rcases kd_cases (D := D) hs (show l < 16 by omega) with ⟨k, _⟩ | ⟨k, t3, _⟩ | ⟨k, t4, _⟩ | ⟨k, t4, to, _⟩ | ⟨k, t5, to⟩
  · rw [k] at hkd ⊢
    exact br_t rfl (And.intro vp0 (nm_e (K0 hkd v2 o2 u2 hym2)))
  · rw [k] at hkd ⊢
    refine br_f (by decide) (br_t rfl ?_)
    refine yw_value (b := 0) rfl hV (by omega) (Or.inl ar_neg2) ?_
    refine br_f (by decide) (br_f (by decide) ?_)
    unfold wY_run_211 wY_run_212
    exact yw_succ (s := false) hs hbs hV hL hB hn hy hpt hD ⟨fun _ => rfl, fun _ => rfl⟩ (hF y hy) (fun v3 hv3 => br_f (by decide) (nm_r (ar_a1 c) (K3 hkd v3 o2 u2 (tail v3 hv3))))
  · rw [k] at hkd ⊢
    refine br_f (by decide) (br_t rfl ?_)
    refine yw_value (b := 0) rfl hV (by omega) (Or.inl ar_neg2) ?_
    refine br_f (by decide) (br_f (by decide) ?_)
    unfold wY_run_211 wY_run_212
    exact yw_succ (s := false) hs hbs hV hL hB hn hy hpt hD ⟨fun _ => rfl, fun _ => rfl⟩ (hF y hy) (fun v3 hv3 => br_f (by decide) (nm_r (ar_a1 c) (K3 hkd v3 o2 u2 (tail v3 hv3))))
  · rw [k] at hkd ⊢
    refine br_f (by decide) (br_f (by decide) (And.intro i1 ?_))
    refine yw_value (b := 0) (congrArg b_code T1) hV (by omega) to ?_
    rw [hov _ to]
    have K4 := K4 hkd
    have fork : ∀ (r : Int32) (v3 : Nat → Int32), (∀ j, j < 16 → v3 j = v2 j) → (if pu_ov (pu_en b_code b_rom 0 l w (sz l)).1 (b_code (l * 35 + sz l * 5 + 1)) = 0 then S y else F y) = r →
        ((4 : Int32) = 4 → ((1000000 ≤ b_forks 0 → wY_run_245 post (wY_run_61 post m) x2 (nI c) (nI V) (nI B) (nI L) (nI Q) g_cursor (nI n) g_dyn r g_place b_code b_size b_rom b_init b_marked b_pLabel b_pVal b_status b_result b_forks o2 u2 v3) ∧ (¬ 1000000 ≤ b_forks 0 → ∀ a, a = upd b_forks 0 (b_forks 0 + 1) → wY_run_245 post (wY_run_61 post m) x2 (nI c) (nI V) (nI B) (nI L) (nI Q) g_cursor (nI n) g_dyn r g_place b_code b_size b_rom b_init b_marked b_pLabel b_pVal b_status b_result a o2 u2 v3))) ∧
        (¬ (4 : Int32) = 4 → ∀ x3', x3' = nI c + 1 → wY_run_61 post m x2 x3' (nI V) (nI B) (nI L) (nI Q) g_cursor (nI n) g_dyn r g_place b_code b_size b_rom b_init b_marked b_pLabel b_pVal b_status b_result b_forks o2 u2 v3) := by
      intro r v3 hv3 er
      have K4 := K4 v3 o2 u2 (tail v3 hv3)
      rw [er] at K4
      refine br_t rfl (br_c (fun g => ?_) (fun g => nm_e ?_))
      · rw [if_pos g, ar_upd_self rfl] at K4; exact K4
      · rw [if_neg g] at K4; exact K4
    refine br_f (by decide) (br_t rfl (br_c (fun g => ?_) (fun g => ?_)))
    · unfold wY_run_212
      exact yw_succ (s := true) hs hbs hV hL hB hn hy hpt hD ⟨fun z => absurd z (by decide), fun z => absurd z (by decide)⟩ (hS y hy) (fun v3 hv3 => fork (S y) v3 hv3 (if_pos g))
    · unfold wY_run_211 wY_run_212
      exact yw_succ (s := false) hs hbs hV hL hB hn hy hpt hD ⟨fun _ => rfl, fun _ => rfl⟩ (hF y hy) (fun v3 hv3 => fork (F y) v3 hv3 (if_neg g))
  · rw [k] at hkd ⊢
    refine br_f (by decide) (br_f (by decide) (And.intro i1 ?_))
    refine yw_value (b := 0) (congrArg b_code T1) hV (by omega) to ?_
    rw [hov _ to]
    exact br_t rfl (nm_e (And.intro vp0 (nm_e (K5 hkd v2 o2 u2 hym2))))
end
end
section
theorem xm_tr {V : Nat} {D : Nat → Bool} {va oa xv oc ou xv' oc' ou' : Nat → Int32} {w w' : (Nat → Int32) × Int32 × (Nat → Int32)} (h1 : pu_xm V D va oa xv oc ou w) (h2 : pu_xm V D xv oc xv' oc' ou' w') : pu_xm V D va oa xv' oc' ou' w' :=
  ⟨h2.1, fun j hj => (h2.2.1 j hj).trans (h1.2.1 j hj), h2.2.2.1, fun j hj => (h2.2.2.2.1 j hj).trans (h1.2.2.2.1 j hj), h2.2.2.2.2⟩
theorem xm_self {V : Nat} {D : Nat → Bool} {va oa xv oc ou : Nat → Int32} {w : (Nat → Int32) × Int32 × (Nat → Int32)} (h : pu_xm V D va oa xv oc ou w) : pu_xm V D xv oc xv oc ou w := ⟨h.1, fun _ _ => rfl, h.2.2.1, fun _ _ => rfl, h.2.2.2.2⟩
section
variable {V B L Q n : Nat} {f_residualMachine f_directMachine f_work f_opMove f_opOut f_countCap f_cursorLabel f_residual f_found f_codeSize : Int32} {a_stmt a_stmtCount a_term a_rom a_initial a_marked a_uses a_dist a_ptLabel a_ptKind a_ptFirst a_ptSecond a_before a_after a_exitOf a_head a_rankOf a_byRank a_codeStart a_codeEnd a_codeOp a_codeDst a_codeMode a_codeX a_codeY a_values a_status a_result a_forks a_outCount a_output a_place : Nat → Int32} {g_cursor g_points g_dyn g_at g_place : Int32} {b_code b_init b_marked b_pLabel b_pVal b_status b_result b_forks b_outs b_out b_val : Nat → Int32} {sz : Nat → Nat} {D : Nat → Bool} {YG : (Int32 → SY → Prop) → Prop}
theorem xw_r67e {post : Int32 → SX → Prop} {lim r x5 : Int32} {m : Nat} (hr : ¬ r = 2) (K : post r ((nI V), (nI B), (nI L), (nI Q), f_residualMachine, f_directMachine, f_work, f_opMove, f_opOut, f_countCap, f_cursorLabel, f_residual, f_found, f_codeSize, a_stmt, a_stmtCount, a_term, a_rom, a_initial, a_marked, a_uses, a_dist, a_ptLabel, a_ptKind, a_ptFirst, a_ptSecond, a_before, a_after, a_exitOf, a_head, a_rankOf, a_byRank, a_codeStart, a_codeEnd, a_codeOp, a_codeDst, a_codeMode, a_codeX, a_codeY, a_values, (upd a_status 0 r), a_result, a_forks, a_outCount, a_output, a_place)) : wX_run_67 post lim (m + 1) r x5 (nI V) (nI B) (nI L) (nI Q) f_residualMachine f_directMachine f_work f_opMove f_opOut f_countCap f_cursorLabel f_residual f_found f_codeSize a_stmt a_stmtCount a_term a_rom a_initial a_marked a_uses a_dist a_ptLabel a_ptKind a_ptFirst a_ptSecond a_before a_after a_exitOf a_head a_rankOf a_byRank a_codeStart a_codeEnd a_codeOp a_codeDst a_codeMode a_codeX a_codeY a_values a_status a_result a_forks a_outCount a_output a_place :=
  br_c (fun _ => nm_e K) (fun _ => br_f hr (nm_e K))
/-- the reference runs a chain of jumps -/
theorem yw_chain {post : Int32 → SY → Prop} {q K c m : Nat} {x2 : Int32} {w0 : (Nat → Int32) × Int32 × (Nat → Int32)} {px pk pf ps bf af ex hd ro br cs ce co cn cm cx cy : Nat → Int32} (hs : pu_src V B L sz b_code a_stmt a_stmtCount a_term) (hV : V ≤ 8) (hL : L ≤ 6) (hB : B ≤ 16)
    (hres : pu_res V B n b_code a_rom sz D g_dyn px pk pf ps bf af ex hd ro br cs ce co cn cm cx cy b_pLabel b_pVal) (hKn : K < n) (hch : ∀ j, j ≤ K → pu_ch pf q j < n) (hK : ∀ j, j < K → pk (pu_ch pf q j) = 3) (hK2 : pk (pu_ch pf q K) ≠ 3) (hc : c + K < 600) (hoc : pu_oc w0.2.1)
    (H : ∀ vl os ou, pu_ym b_val b_outs vl os ou (pu_cw b_code a_rom sz b_pLabel pf q w0 K) → wY_run_61 post m x2 (nI (c + K)) (nI V) (nI B) (nI L) (nI Q) g_cursor (nI n) g_dyn (nI (pu_ch pf q K)) g_place b_code a_stmtCount a_rom b_init b_marked b_pLabel b_pVal b_status b_result b_forks os ou vl) :
    ∀ e k, k + e = K → ∀ vl os ou, pu_ym b_val b_outs vl os ou (pu_cw b_code a_rom sz b_pLabel pf q w0 k) → wY_run_61 post (m + e) x2 (nI (c + k)) (nI V) (nI B) (nI L) (nI Q) g_cursor (nI n) g_dyn (nI (pu_ch pf q k)) g_place b_code a_stmtCount a_rom b_init b_marked b_pLabel b_pVal b_status b_result b_forks os ou vl := by
  have hn := hres.1.2
  intro e
  induction e with
  | zero =>
    intro k hk vl os ou hym
    obtain rfl : k = K := by omega
    exact H vl os ou hym
  | succ e ih =>
    intro k hk vl os ou hym
    have h3 := hK k (by omega)
    obtain ⟨q', hq', eq', _⟩ := rs_jump hres hs hB (hch k (by omega)) h3
    have ech : pu_ch pf q (k + 1) = q' := by show (pf (pu_ch pf q k)).toNatClampNeg = q'; rw [eq', nI_clamp (by omega)]
    refine yw_pt (F := pf) (S := ps) (KD := pk) (m := m + e) hs rfl hV hL hB hn (hch k (by omega)) (by omega) hres.2.1.1 hres.2.2.2.2.2.2.2.2 (fun p hp => (hres.2.2.1 p hp).2.2.1) (fun p hp => (hres.2.2.1 p hp).2.2.2) (fun p hp => (hres.2.2.1 p hp).1)
      ⟨K - k, by omega, by rw [ch_add, show k + (K - k) = K by omega]; exact hch K (Nat.le_refl _), by rw [ch_add, show k + (K - k) = K by omega]; exact hK2⟩ hym (cw_oc hoc k)
      (fun z => absurd (h3.symm.trans z) (by decide)) (fun z => absurd (h3.symm.trans z) (by decide)) (fun _ vl os ou hym' => ?_) (fun z => absurd (h3.symm.trans z) (by decide))
    have := ih (k + 1) (by omega) vl os ou hym'
    rw [ech, ← Nat.add_assoc] at this
    rw [eq']
    exact this
theorem yw_doom {post : Int32 → SY → Prop} {q c m : Nat} {x2 : Int32} {px pk pf ps bf af ex hd ro br cs ce co cn cm cx cy vl os : Nat → Int32} (hs : pu_src V B L sz b_code a_stmt a_stmtCount a_term) (hV : V ≤ 8) (hL : L ≤ 6) (hB : B ≤ 16)
    (hres : pu_res V B n b_code a_rom sz D g_dyn px pk pf ps bf af ex hd ro br cs ce co cn cm cx cy b_pLabel b_pVal) (hq : q < n) (hc : c < 600) (hall : ∀ k, pk (pu_ch pf q k) = 3 ∧ pu_ch pf q k < n)
    (K : ∀ v1 : Nat → Int32, (∀ j, j < 16 → v1 j = vl j) → post 5 ((nI V), (nI B), (nI L), (nI Q), g_cursor, (nI n), g_dyn, (nI q), g_place, b_code, a_stmtCount, a_rom, b_init, b_marked, b_pLabel, b_pVal, (upd b_status 0 5), b_result, b_forks, os, b_out, v1)) :
    wY_run_61 post (m + 1) x2 (nI c) (nI V) (nI B) (nI L) (nI Q) g_cursor (nI n) g_dyn (nI q) g_place b_code a_stmtCount a_rom b_init b_marked b_pLabel b_pVal b_status b_result b_forks os b_out vl := by
  refine br_f (nI_ge (b := 600) (by omega) (by omega)) (yw_doomed (F := pf) hs rfl hV hL hB hres.1.2 hq hres.2.1.1 hres.2.2.2.2.2.2.2.2 (fun p hp => (hres.2.2.1 p hp).2.2.1) (fun _ v1 hv1 => ?_) (fun ⟨k, hk, hk3⟩ => ?_))
  · exact br_f (by decide) (And.intro (vp_in_nI (n := 0) (by omega) (by omega)) (nm_e (K v1 hv1)))
  · exact absurd (((hres.2.2.1 _ (hall k).2).1).symm.trans (hall k).1) hk3
theorem lk_run {post : Int32 → SX → Prop} {lim : Nat} (hlim : lim ≤ 16) (hs : pu_src V B L sz b_code a_stmt a_stmtCount a_term) (hV : V ≤ 8) (hL : L ≤ 6) (hB : B ≤ 16) (hcg : pu_cg V b_code sz D) (hD : ∀ v, v < V → (0 ≤ a_dist v ↔ D v = true))
    (hres : pu_res V B n b_code a_rom sz D g_dyn a_ptLabel a_ptKind a_ptFirst a_ptSecond a_before a_after a_exitOf a_head a_rankOf a_byRank a_codeStart a_codeEnd a_codeOp a_codeDst a_codeMode a_codeX a_codeY b_pLabel b_pVal) (hrs : a_result 0 = b_result 0)
    (K : ∀ (r : Int32) (q : Nat) w xv oc ou pc rs fk rsY fkY, (r = 2 ∨ r = 3 ∨ r = 4 ∨ r = 5) → q < n → pc 0 = nI q → pc 1 = a_place 1 → (r = 2 → ¬ a_head q = 0) → rs 0 = rsY 0 → rs 1 = a_result 1 → rsY 1 = b_result 1 → fk 0 = fkY 0 → fk 1 = a_forks 1 → fkY 1 = b_forks 1 → pu_oc w.2.1 →
      (∀ v, v < V → D v = false → w.1 v = if r = 3 ∨ r = 4 then a_after (q * 8 + v) else b_pVal (q * 8 + v)) → pu_xm V D a_values a_outCount xv oc ou w →
      (∀ postY : Int32 → SY → Prop, (∀ vl os, pu_ym b_val b_outs vl os ou w → postY r ((nI V), (nI B), (nI L), (nI Q), g_cursor, (nI n), g_dyn, (nI q), g_place, b_code, a_stmtCount, a_rom, b_init, b_marked, b_pLabel, b_pVal, (upd b_status 0 r), rsY, fkY, os, ou, vl)) → YG postY) →
      post r ((nI V), (nI B), (nI L), (nI Q), f_residualMachine, f_directMachine, f_work, f_opMove, f_opOut, f_countCap, f_cursorLabel, f_residual, f_found, f_codeSize, a_stmt, a_stmtCount, a_term, a_rom, a_initial, a_marked, a_uses, a_dist, a_ptLabel, a_ptKind, a_ptFirst, a_ptSecond, a_before, a_after, a_exitOf, a_head, a_rankOf, a_byRank, a_codeStart, a_codeEnd, a_codeOp, a_codeDst, a_codeMode, a_codeX, a_codeY, xv, (upd a_status 0 r), rs, fk, oc, ou, pc)) :
    ∀ e t, t + e = lim → 0 < e → ∀ (q : Nat) w xv oc ou pc fk fkY (c : Nat), c ≤ 32 * t → q < n → ¬ a_head q = 0 → pc 0 = nI q → pc 1 = a_place 1 → fk 0 = fkY 0 → fk 1 = a_forks 1 → fkY 1 = b_forks 1 → pu_oc w.2.1 → (∀ v, v < V → D v = false → w.1 v = b_pVal (q * 8 + v)) → pu_xm V D a_values a_outCount xv oc ou w →
      (∀ (postY : Int32 → SY → Prop) m, (∀ vl os, pu_ym b_val b_outs vl os ou w → wY_run_61 postY m (nI e) (nI c) (nI V) (nI B) (nI L) (nI Q) g_cursor (nI n) g_dyn (nI q) g_place b_code a_stmtCount a_rom b_init b_marked b_pLabel b_pVal b_status b_result fkY os ou vl) → YG postY) →
      ∀ k, e < k → wX_run_67 post (nI lim) k 2 (nI t) (nI V) (nI B) (nI L) (nI Q) f_residualMachine f_directMachine f_work f_opMove f_opOut f_countCap f_cursorLabel f_residual f_found f_codeSize a_stmt a_stmtCount a_term a_rom a_initial a_marked a_uses a_dist a_ptLabel a_ptKind a_ptFirst a_ptSecond a_before a_after a_exitOf a_head a_rankOf a_byRank a_codeStart a_codeEnd a_codeOp a_codeDst a_codeMode a_codeX a_codeY xv a_status a_result fk oc ou pc := by
  have hn := hres.1.2
  intro e
  induction e with
  | zero => intro t ht h0; omega
  | succ e ih =>
    intro t ht _ q w xv oc ou pc fk fkY c hc hq hhd hp0 hp1 hf0 hf1 hfy hoc hS hm RY k hk
    obtain ⟨m, rfl⟩ : ∃ m, k = m + 1 := ⟨k - 1, by omega⟩
    obtain ⟨m, rfl⟩ : ∃ m', m = m' + 1 := ⟨m - 1, by omega⟩
    refine br_f (nI_ge (by omega) (by omega)) (br_t rfl ?_)
    refine xw_piece (pl := b_pLabel) (pv := b_pVal) hs hV hL hB hcg hres hD hq hp0 hhd hoc hS (xm_self hm) (fun e5 => ?_) (fun K' hK' hch hK1 hK2 xv' oc' ou' hm' t' et' => ?_)
    · -- doomed
      refine nm_e (xw_r67e (by decide) (K 5 q w xv oc ou pc a_result fk b_result fkY (Or.inr (Or.inr (Or.inr rfl))) hq hp0 hp1 (fun z => absurd z (by decide)) hrs rfl rfl hf0 hf1 hfy hoc (fun v hv hDv => by rw [if_neg (by decide)]; exact hS v hv hDv) hm (fun postY hY => RY postY 1 (fun vl os hym => ?_))))
      rcases rs_exit hres hs hB hq with ⟨_, hall⟩ | ⟨K', hK', hch, _, _, e⟩
      · refine yw_doom (m := 0) hs hV hL hB hres hq (by omega) hall (fun v1 hv1 => hY v1 os ?_)
        exact ⟨fun v hv => (hv1 v (by omega)).trans (hym.1 v hv), fun j h8 h16 => (hv1 j h16).trans (hym.2.1 j h8 h16), hym.2.2⟩
      · have := hch K' (Nat.le_refl _)
        exact absurd (e.symm.trans e5) (ar_ne1 (by omega))
    · have hx := hch K' (Nat.le_refl _)
      have hdn := hres.2.2.1 _ hx
      have hw1 : pu_cw b_code a_rom sz b_pLabel a_ptFirst q w (K' + 1) = pu_en b_code a_rom 0 (b_pLabel (pu_ch a_ptFirst q K')).toNatClampNeg (pu_cw b_code a_rom sz b_pLabel a_ptFirst q w K') (sz (b_pLabel (pu_ch a_ptFirst q K')).toNatClampNeg) := rfl
      have hoc1 := cw_oc (cd := b_code) (rom := a_rom) (sz := sz) (pl := b_pLabel) (F := a_ptFirst) (p := q) hoc (K' + 1)
      have hend := cw_end (w := w) hs hV hB hn hres.2.1.1 hcg (fun p hp => (hres.2.2.1 p hp).2.2.1) (fun p hp => (hres.2.2.1 p hp).1) hq hK1 hS
      have hmm := xm_tr hm hm'
      have chain := fun (postY : Int32 → SY → Prop) (m : Nat) H => yw_chain (post := postY) (m := m) (x2 := nI (e + 1)) (c := c) (b_init := b_init) (b_marked := b_marked) (b_status := b_status) (b_result := b_result) (b_forks := fkY) (g_cursor := g_cursor) (g_place := g_place) (Q := Q) (b_val := b_val) (b_outs := b_outs) hs hV hL hB hres hK' hch hK1 hK2 (by omega) hoc H K' 0 (by omega)
      have pt := fun (postY : Int32 → SY → Prop) (m : Nat) (vl os ou : Nat → Int32) (hym : pu_ym b_val b_outs vl os ou (pu_cw b_code a_rom sz b_pLabel a_ptFirst q w K')) => yw_pt (post := postY) (y := pu_ch a_ptFirst q K') (m := m) (c := c + K') (x2 := nI (e + 1)) (F := a_ptFirst) (S := a_ptSecond) (KD := a_ptKind) (b_init := b_init) (b_marked := b_marked) (b_status := b_status) (b_result := b_result) (b_forks := fkY) (g_cursor := g_cursor) (g_place := g_place) (Q := Q) (b_val := b_val) (b_outs := b_outs) hs (rfl : a_stmtCount = a_stmtCount) hV hL hB hn hx (by omega) hres.2.1.1 hres.2.2.2.2.2.2.2.2 (fun p hp => (hres.2.2.1 p hp).2.2.1) (fun p hp => (hres.2.2.1 p hp).2.2.2) (fun p hp => (hres.2.2.1 p hp).1)
        ⟨0, by omega, hx, hK2⟩ hym (cw_oc hoc K')
      rw [← hw1, ← et'] at pt
      generalize hwx : pu_cw b_code a_rom sz b_pLabel a_ptFirst q w (K' + 1) = w1 at *
      generalize hxx : pu_ch a_ptFirst q K' = x at *
      refine ⟨fun k5 => ?_, fun k0 => ?_, fun k4 => ?_⟩
      · -- a return
        refine nm_e (xw_r67e (by decide) (K 3 x w1 xv' oc' ou' _ _ fk (upd b_result 0 (pu_ov w1.1 (b_code (t' + 1)))) fkY (Or.inr (Or.inl rfl)) hx pk_us ((pk_un (by decide)).trans hp1) (fun z => absurd z (by decide)) (pk_us.trans pk_us.symm) (pk_un (by decide)) (pk_un (by decide)) hf0 hf1 hfy hoc1
          (fun v hv hDv => by rw [if_pos (Or.inl rfl), hdn.2.1 v hv]; exact hend v hv hDv) hmm (fun postY hY => RY postY (0 + 1 + K') (fun vl os hym => ?_))))
        refine chain postY (0 + 1) (fun vl os ou hym => ?_) vl os ou hym
        refine pt postY 0 vl os ou hym (fun z => absurd (k5.symm.trans z) (by decide)) (fun _ vl os ou hym => ?_) (fun z => absurd (k5.symm.trans z) (by decide)) (fun z => absurd (k5.symm.trans z) (by decide))
        have eo : ou = ou' := hym.2.2.2.2.trans hm'.2.2.2.2.symm
        subst eo
        exact hY vl os hym
      · -- a block that ends nowhere
        refine nm_e (xw_r67e (by decide) (K 4 x w1 xv' oc' ou' _ a_result fk b_result fkY (Or.inr (Or.inr (Or.inl rfl))) hx pk_us ((pk_un (by decide)).trans hp1) (fun z => absurd z (by decide)) hrs rfl rfl hf0 hf1 hfy hoc1
          (fun v hv hDv => by rw [if_pos (Or.inr rfl), hdn.2.1 v hv]; exact hend v hv hDv) hmm (fun postY hY => RY postY (0 + 1 + K') (fun vl os hym => ?_))))
        refine chain postY (0 + 1) (fun vl os ou hym => ?_) vl os ou hym
        refine pt postY 0 vl os ou hym (fun _ vl os ou hym => ?_) (fun z => absurd (k0.symm.trans z) (by decide)) (fun z => absurd (k0.symm.trans z) (by decide)) (fun z => absurd (k0.symm.trans z) (by decide))
        have eo : ou = ou' := hym.2.2.2.2.trans hm'.2.2.2.2.symm
        subst eo
        exact hY vl os hym
      · -- a fork
        have hnx : ∃ q', q' < n ∧ (if pu_ov w1.1 (b_code (t' + 1)) = 0 then a_ptSecond x else a_ptFirst x) = nI q' ∧ ¬ a_head q' = 0 ∧ ∀ v, v < V → b_pVal (q' * 8 + v) = pu_sb b_code a_rom sz D b_pLabel b_pVal x v := by
          by_cases z : pu_ov w1.1 (b_code (t' + 1)) = 0
          · obtain ⟨q', hq', e', hmt⟩ := rs_fork hres hs hB hx k4 true
            rw [if_pos rfl] at e'
            refine ⟨q', hq', by rw [if_pos z]; exact e', ?_, hmt.2⟩
            rcases hres.2.2.2.2.2.2.1 q' hq' with y | y
            · rw [y.1]; decide
            · exact absurd (Or.inr ⟨x, hx, k4, Or.inr e'⟩) y.2
          · obtain ⟨q', hq', e', hmt⟩ := rs_fork hres hs hB hx k4 false
            rw [if_neg (by decide)] at e'
            refine ⟨q', hq', by rw [if_neg z]; exact e', ?_, hmt.2⟩
            rcases hres.2.2.2.2.2.2.1 q' hq' with y | y
            · rw [y.1]; decide
            · exact absurd (Or.inr ⟨x, hx, k4, Or.inl e'⟩) y.2
        obtain ⟨q', hq', e', hhd', hpv'⟩ := hnx
        rw [e'] at pt ⊢
        have hS' : ∀ v, v < V → D v = false → w1.1 v = b_pVal (q' * 8 + v) := fun v hv hDv => (hend v hv hDv).trans (hpv' v hv).symm
        have hff : upd fk 0 (if 1000000 ≤ fk 0 then fk 0 else fk 0 + 1) 0 = upd fkY 0 (if 1000000 ≤ fkY 0 then fkY 0 else fkY 0 + 1) 0 := by rw [pk_us, pk_us, hf0]
        by_cases hlast : e = 0
        · -- the last one
          subst hlast
          refine nm_r (ar_a1 t) (br_t (nI_le (by omega) (by omega)) (nm_e ?_))
          refine K 2 q' w1 xv' oc' ou' _ a_result _ b_result (upd fkY 0 (if 1000000 ≤ fkY 0 then fkY 0 else fkY 0 + 1)) (Or.inl rfl) hq' pk_us ((pk_un (by decide)).trans ((pk_un (by decide)).trans hp1)) (fun _ => hhd') hrs rfl rfl hff ((pk_un (by decide)).trans hf1) ((pk_un (by decide)).trans hfy) hoc1
            (fun v hv hDv => by rw [if_neg (by decide)]; exact hS' v hv hDv) hmm (fun postY hY => RY postY (0 + 1 + K') (fun vl os hym => ?_))
          refine chain postY (0 + 1) (fun vl os ou hym => ?_) vl os ou hym
          refine pt postY 0 vl os ou hym (fun z => absurd (k4.symm.trans z) (by decide)) (fun z => absurd (k4.symm.trans z) (by decide)) (fun z => absurd (k4.symm.trans z) (by decide)) (fun _ vl os ou hym => ?_)
          have eo : ou = ou' := hym.2.2.2.2.trans hm'.2.2.2.2.symm
          subst eo
          exact nm_r (e' := 0) (by decide) (br_t rfl (And.intro (vp_in_nI (n := 0) (by omega) (by omega)) (nm_e (hY vl os hym))))
        · refine nm_r (ar_a1 t) (ih (t + 1) (by omega) (by omega) q' w1 xv' oc' ou' _ _ (upd fkY 0 (if 1000000 ≤ fkY 0 then fkY 0 else fkY 0 + 1)) (c + K' + 1) (by omega) hq' hhd' pk_us ((pk_un (by decide)).trans ((pk_un (by decide)).trans hp1)) hff ((pk_un (by decide)).trans hf1) ((pk_un (by decide)).trans hfy) hoc1 hS' hmm (fun postY m' hY => RY postY (m' + 1 + K') (fun vl os hym => ?_)) (m + 1) (by omega))
          refine chain postY (m' + 1) (fun vl os ou hym => ?_) vl os ou hym
          refine pt postY m' vl os ou hym (fun z => absurd (k4.symm.trans z) (by decide)) (fun z => absurd (k4.symm.trans z) (by decide)) (fun z => absurd (k4.symm.trans z) (by decide)) (fun _ vl os ou hym => ?_)
          have eo : ou = ou' := hym.2.2.2.2.trans hm'.2.2.2.2.symm
          subst eo
          exact nm_r (pk_m1 e) (br_f (nI_ne0 (by omega) (by omega)) (nm_r (ar_a1 (c + K')) (hY vl os hym)))
end
end
section
/-- a direct machine (of either side) shows the pure one -/
def pu_dm (V : Nat) (va oa xv oc ou : Nat → Int32) (w : (Nat → Int32) × Int32 × (Nat → Int32)) : Prop :=
  (∀ v, v < V → xv (8 + v) = w.1 v) ∧ (∀ j, j < 8 → xv j = va j) ∧ oc 1 = w.2.1 ∧ (∀ j, j ≠ 1 → oc j = oa j) ∧ ou = w.2.2
section
variable {V B L Q n : Nat} {f_residualMachine f_directMachine f_work f_opMove f_opOut f_countCap f_cursorLabel f_residual f_found f_codeSize : Int32} {a_stmt a_stmtCount a_term a_rom a_initial a_marked a_uses a_dist a_ptLabel a_ptKind a_ptFirst a_ptSecond a_before a_after a_exitOf a_head a_rankOf a_byRank a_codeStart a_codeEnd a_codeOp a_codeDst a_codeMode a_codeX a_codeY a_values a_status a_result a_forks a_outCount a_output a_place : Nat → Int32} {sz : Nat → Nat} {cd : Nat → Int32} {D : Nat → Bool}
theorem xw_rb9 {post : Int32 → SX → Prop} {l : Nat} {w0 : (Nat → Int32) × Int32 × (Nat → Int32)} (hs : pu_src V B L sz cd a_stmt a_stmtCount a_term) (hV : V ≤ 8) (hL : L ≤ 6) (hl : l < 16) (hoc : pu_oc w0.2.1)
    (K : ∀ xv oc ou, pu_dm V a_values a_outCount xv oc ou (pu_en cd a_rom 1 l w0 (sz l)) → wpX_leaveBlock post ((nI V), (nI B), (nI L), (nI Q), f_residualMachine, f_directMachine, f_work, f_opMove, f_opOut, f_countCap, f_cursorLabel, f_residual, f_found, f_codeSize, a_stmt, a_stmtCount, a_term, a_rom, a_initial, a_marked, a_uses, a_dist, a_ptLabel, a_ptKind, a_ptFirst, a_ptSecond, a_before, a_after, a_exitOf, a_head, a_rankOf, a_byRank, a_codeStart, a_codeEnd, a_codeOp, a_codeDst, a_codeMode, a_codeX, a_codeY, xv, a_status, a_result, a_forks, oc, ou, a_place) (nI (l * 5))) :
    ∀ e i, i + e = sz l → ∀ xv oc ou, pu_dm V a_values a_outCount xv oc ou (pu_en cd a_rom 1 l w0 i) → ∀ n, e < n → wX_runBlock_9 post (nI l) n (nI i) (nI V) (nI B) (nI L) (nI Q) f_residualMachine f_directMachine f_work f_opMove f_opOut f_countCap f_cursorLabel f_residual f_found f_codeSize a_stmt a_stmtCount a_term a_rom a_initial a_marked a_uses a_dist a_ptLabel a_ptKind a_ptFirst a_ptSecond a_before a_after a_exitOf a_head a_rankOf a_byRank a_codeStart a_codeEnd a_codeOp a_codeDst a_codeMode a_codeX a_codeY xv a_status a_result a_forks oc ou a_place := by
  have hz := Nat.le_trans (sr_sz hs hl) hL
  have ecl : a_stmtCount (nI l).toNatClampNeg = nI (sz l) := by rw [nI_clamp (by omega), sr_cnt hs hl]
  have il : vp_in (nI l) 16 := vp_in_nI hl (by omega)
  intro e
  induction e with
  | zero =>
    intro i hi xv oc ou hm n hn
    obtain ⟨m, rfl⟩ : ∃ m, n = m + 1 := ⟨n - 1, by omega⟩
    obtain rfl : i = sz l := by omega
    refine And.intro il (br_t (by rw [ecl]; exact nI_le (by omega) (by omega)) ?_)
    rw [ar_m5]
    exact K xv oc ou hm
  | succ e ih =>
    intro i hi xv oc ou hm n hn
    obtain ⟨m, rfl⟩ : ∃ m, n = m + 1 := ⟨n - 1, by omega⟩
    have hok := oc_en (cd := cd) (rom := a_rom) (m := 1) (l := l) hoc i
    have esucc : pu_en cd a_rom 1 l w0 (i + 1) = pu_e1 cd a_rom 1 (l * 35 + i * 5) (pu_en cd a_rom 1 l w0 i) := rfl
    refine And.intro il (br_f (by rw [ecl]; exact nI_ge (by omega) (by omega)) (nm_r (ar_st l i) ?_))
    generalize hk : (l * 6 + i) * 5 = k
    have E : ∀ f, f < 5 → a_stmt (k + f) = cd (l * 35 + i * 5 + f) := fun f hf => by rw [← hk]; exact sr_st hs f hl (by omega) hf
    have hk4 : k + 4 < 480 := by omega
    have E0 : a_stmt (nI k).toNatClampNeg = cd (l * 35 + i * 5) := by rw [nI_clamp (by omega)]; exact E 0 (by omega)
    have E1 : a_stmt (nI k + 1).toNatClampNeg = cd (l * 35 + i * 5 + 1) := by rw [ar_a1, nI_clamp (by omega), E 1 (by omega)]
    refine And.intro (vp_in_nI (by omega) (by omega)) ?_
    generalize hw : pu_en cd a_rom 1 l w0 i = w at *
    obtain ⟨m1, m2, m3, m4, m5⟩ := hm
    rcases sr_row hs hl (show i < sz l by omega) with ⟨r1, ⟨d, hd, ed⟩, ro, r3, r4⟩ | ⟨r2, ro⟩
    · refine br_t (by rw [E0]; exact r1) (xw_assignOn (b := 8) hV (by omega) hk4 E hd ed ro r3 r4 (nm_r (ar_a1 i) (ih (i + 1) (by omega) _ oc ou ?_ m (by omega))))
      rw [esucc, e1_as r1, ed, nI_clamp (by omega), ov_ext (st' := w.1) hV r3 m1, ov_ext (st' := w.1) hV r4 m1]
      refine ⟨fun v hv => ?_, fun j hj => ?_, m3, m4, m5⟩
      · dsimp only
        by_cases z : v = d
        · rw [z, pk_us, pk_us]
        · rw [pk_un z, pk_un (by omega)]; exact m1 v hv
      · rw [pk_un (by omega)]; exact m2 j hj
    · refine br_f (by rw [E0, r2]; decide) (And.intro (by rw [ar_a1]; exact vp_in_nI (by omega) (by omega)) (xw_operand (b := 8) E1 hV (by omega) ro (xw_send (m := 1) (by omega) (by rw [m3]; exact hok) (nm_r (ar_a1 i) (ih (i + 1) (by omega) xv _ _ ?_ m (by omega))))))
      rw [esucc, e1_em r2, ov_ext (st' := w.1) hV ro m1]
      refine ⟨m1, m2, ?_, fun j hj => ?_, ?_⟩
      · rw [pk_us, m3]
      · rw [pk_un hj]; exact m4 j hj
      · rw [m3, m5]
theorem xw_leave {post : Int32 → SX → Prop} {l : Nat} {W : Nat → Int32} (hs : pu_src V B L sz cd a_stmt a_stmtCount a_term) (hV : V ≤ 8) (hl : l < 16) (hD : ∀ v, v < V → (0 ≤ a_dist v ↔ D v = true)) (hW : ∀ v, v < V → a_values (8 + v) = W v) (hfk : ¬ 1000000 ≤ a_forks 1)
    (K0 : cd (l * 35 + sz l * 5) = 0 → post 4 ((nI V), (nI B), (nI L), (nI Q), f_residualMachine, f_directMachine, f_work, f_opMove, f_opOut, f_countCap, f_cursorLabel, f_residual, f_found, f_codeSize, a_stmt, a_stmtCount, a_term, a_rom, a_initial, a_marked, a_uses, a_dist, a_ptLabel, a_ptKind, a_ptFirst, a_ptSecond, a_before, a_after, a_exitOf, a_head, a_rankOf, a_byRank, a_codeStart, a_codeEnd, a_codeOp, a_codeDst, a_codeMode, a_codeX, a_codeY, a_values, a_status, a_result, a_forks, a_outCount, a_output, a_place))
    (K5 : cd (l * 35 + sz l * 5) = 5 → pu_op V (cd (l * 35 + sz l * 5 + 1)) → post 3 ((nI V), (nI B), (nI L), (nI Q), f_residualMachine, f_directMachine, f_work, f_opMove, f_opOut, f_countCap, f_cursorLabel, f_residual, f_found, f_codeSize, a_stmt, a_stmtCount, a_term, a_rom, a_initial, a_marked, a_uses, a_dist, a_ptLabel, a_ptKind, a_ptFirst, a_ptSecond, a_before, a_after, a_exitOf, a_head, a_rankOf, a_byRank, a_codeStart, a_codeEnd, a_codeOp, a_codeDst, a_codeMode, a_codeX, a_codeY, a_values, a_status, (upd a_result 1 (pu_ov W (cd (l * 35 + sz l * 5 + 1)))), a_forks, a_outCount, a_output, a_place))
    (K3 : cd (l * 35 + sz l * 5) = 3 → post 2 ((nI V), (nI B), (nI L), (nI Q), f_residualMachine, f_directMachine, f_work, f_opMove, f_opOut, f_countCap, f_cursorLabel, f_residual, f_found, f_codeSize, a_stmt, a_stmtCount, a_term, a_rom, a_initial, a_marked, a_uses, a_dist, a_ptLabel, a_ptKind, a_ptFirst, a_ptSecond, a_before, a_after, a_exitOf, a_head, a_rankOf, a_byRank, a_codeStart, a_codeEnd, a_codeOp, a_codeDst, a_codeMode, a_codeX, a_codeY, a_values, a_status, a_result, a_forks, a_outCount, a_output, (upd a_place 1 (cd (l * 35 + sz l * 5 + 1)))))
    (K4 : cd (l * 35 + sz l * 5) = 4 → pu_op V (cd (l * 35 + sz l * 5 + 1)) → post 2 ((nI V), (nI B), (nI L), (nI Q), f_residualMachine, f_directMachine, f_work, f_opMove, f_opOut, f_countCap, f_cursorLabel, f_residual, f_found, f_codeSize, a_stmt, a_stmtCount, a_term, a_rom, a_initial, a_marked, a_uses, a_dist, a_ptLabel, a_ptKind, a_ptFirst, a_ptSecond, a_before, a_after, a_exitOf, a_head, a_rankOf, a_byRank, a_codeStart, a_codeEnd, a_codeOp, a_codeDst, a_codeMode, a_codeX, a_codeY, a_values, a_status, a_result, (if pu_dyo D (cd (l * 35 + sz l * 5 + 1)) = true then upd a_forks 1 (a_forks 1 + 1) else a_forks), a_outCount, a_output, (upd a_place 1 (if pu_ov W (cd (l * 35 + sz l * 5 + 1)) = 0 then cd (l * 35 + sz l * 5 + 3) else cd (l * 35 + sz l * 5 + 2))))) :
    wpX_leaveBlock post ((nI V), (nI B), (nI L), (nI Q), f_residualMachine, f_directMachine, f_work, f_opMove, f_opOut, f_countCap, f_cursorLabel, f_residual, f_found, f_codeSize, a_stmt, a_stmtCount, a_term, a_rom, a_initial, a_marked, a_uses, a_dist, a_ptLabel, a_ptKind, a_ptFirst, a_ptSecond, a_before, a_after, a_exitOf, a_head, a_rankOf, a_byRank, a_codeStart, a_codeEnd, a_codeOp, a_codeDst, a_codeMode, a_codeX, a_codeY, a_values, a_status, a_result, a_forks, a_outCount, a_output, a_place) (nI (l * 5)) := by
  have T0 : a_term (nI (l * 5)).toNatClampNeg = cd (l * 35 + sz l * 5) := by rw [nI_clamp (by omega)]; exact sr_tm hs 0 hl (by omega)
  have T1 : a_term (nI (l * 5) + 1).toNatClampNeg = cd (l * 35 + sz l * 5 + 1) := by rw [ar_a1, nI_clamp (by omega)]; exact sr_tm hs 1 hl (by omega)
  have T2 : a_term (nI (l * 5) + 2).toNatClampNeg = cd (l * 35 + sz l * 5 + 2) := by rw [ar_a2, nI_clamp (by omega)]; exact sr_tm hs 2 hl (by omega)
  have T3 : a_term (nI (l * 5) + 3).toNatClampNeg = cd (l * 35 + sz l * 5 + 3) := by rw [ar_a3, nI_clamp (by omega)]; exact sr_tm hs 3 hl (by omega)
  have i1 : vp_in (nI (l * 5) + 1) 80 := by rw [ar_a1]; exact vp_in_nI (by omega) (by omega)
  have i2 : vp_in (nI (l * 5) + 2) 80 := by rw [ar_a2]; exact vp_in_nI (by omega) (by omega)
  have i3 : vp_in (nI (l * 5) + 3) 80 := by rw [ar_a3]; exact vp_in_nI (by omega) (by omega)
  refine And.intro (vp_in_nI (by omega) (by omega)) (nm_r T0 ?_)
  rcases sr_ter hs hl with t | ⟨t, t1⟩ | ⟨t, to, t2, t3⟩ | ⟨t, to⟩
  · have t := t 0 (by omega)
    rw [Nat.add_zero] at t
    exact br_t t (K0 t)
  · refine br_f (by rw [t]; decide) (br_f (by rw [t]; decide) (br_t t (And.intro i1 (nm_r (e' := upd a_place 1 (cd (l * 35 + sz l * 5 + 1))) (by rw [T1]) (K3 t)))))
  · have K4 := K4 t to
    have fin : ∀ fk : Nat → Int32, fk = (if pu_dyo D (cd (l * 35 + sz l * 5 + 1)) = true then upd a_forks 1 (a_forks 1 + 1) else a_forks) → wX_leaveBlock_83 post (nI (l * 5)) (cd (l * 35 + sz l * 5 + 1)) (nI V) (nI B) (nI L) (nI Q) f_residualMachine f_directMachine f_work f_opMove f_opOut f_countCap f_cursorLabel f_residual f_found f_codeSize a_stmt a_stmtCount a_term a_rom a_initial a_marked a_uses a_dist a_ptLabel a_ptKind a_ptFirst a_ptSecond a_before a_after a_exitOf a_head a_rankOf a_byRank a_codeStart a_codeEnd a_codeOp a_codeDst a_codeMode a_codeX a_codeY a_values a_status a_result fk a_outCount a_output a_place := by
      intro fk hfk
      rw [← hfk] at K4
      refine xw_operand (b := 8) rfl hV (by omega) to ?_
      rw [ov_ext (st' := W) hV to hW]
      refine br_c (fun y => ?_) (fun y => ?_)
      · rw [if_pos y] at K4
        exact And.intro i3 (nm_r (e' := upd a_place 1 (cd (l * 35 + sz l * 5 + 3))) (by rw [T3]) K4)
      · rw [if_neg y] at K4
        exact And.intro i2 (nm_r (e' := upd a_place 1 (cd (l * 35 + sz l * 5 + 2))) (by rw [T2]) K4)
    refine br_f (by rw [t]; decide) (br_f (by rw [t]; decide) (br_f (by rw [t]; decide) (And.intro i1 (nm_r T1 (xw_isDyn rfl hV to (fun g => ?_) (fun g => ?_))))))
    · rw [dyo_dy to hV hD] at g
      refine br_f (by decide) (xw_countFork (m := 1) (by omega) (fin _ ?_))
      rw [if_neg hfk, if_pos g]
    · rw [dyo_dy to hV hD] at g
      exact br_t rfl (fin _ (by rw [if_neg (by rw [g]; decide)]))
  · refine br_f (by rw [t]; decide) (br_t t (And.intro i1 (xw_operand (b := 8) T1 hV (by omega) to ?_)))
    rw [ov_ext (st' := W) hV to hW]
    exact nm_e (K5 t to)
end
section
variable {V B L Q n : Nat} {f_residualMachine f_directMachine f_work f_opMove f_opOut f_countCap f_cursorLabel f_residual f_found f_codeSize : Int32} {a_stmt a_stmtCount a_term a_rom a_initial a_marked a_uses a_dist a_ptLabel a_ptKind a_ptFirst a_ptSecond a_before a_after a_exitOf a_head a_rankOf a_byRank a_codeStart a_codeEnd a_codeOp a_codeDst a_codeMode a_codeX a_codeY a_values a_status a_result a_forks a_outCount a_output a_place : Nat → Int32} {g_cursor g_points g_dyn g_at g_place : Int32} {b_code b_init b_marked b_pLabel b_pVal b_status b_result b_forks b_outs b_out b_val : Nat → Int32} {sz : Nat → Nat} {D : Nat → Bool} {YG : (Int32 → SY → Prop) → Prop}
theorem xw_d32e {post : Int32 → SX → Prop} {lim r x4 : Int32} {m : Nat} (hr : ¬ r = 2) (K : post r ((nI V), (nI B), (nI L), (nI Q), f_residualMachine, f_directMachine, f_work, f_opMove, f_opOut, f_countCap, f_cursorLabel, f_residual, f_found, f_codeSize, a_stmt, a_stmtCount, a_term, a_rom, a_initial, a_marked, a_uses, a_dist, a_ptLabel, a_ptKind, a_ptFirst, a_ptSecond, a_before, a_after, a_exitOf, a_head, a_rankOf, a_byRank, a_codeStart, a_codeEnd, a_codeOp, a_codeDst, a_codeMode, a_codeX, a_codeY, a_values, (upd a_status 1 r), a_result, a_forks, a_outCount, a_output, a_place)) : wX_direct_32 post lim (m + 1) r x4 (nI V) (nI B) (nI L) (nI Q) f_residualMachine f_directMachine f_work f_opMove f_opOut f_countCap f_cursorLabel f_residual f_found f_codeSize a_stmt a_stmtCount a_term a_rom a_initial a_marked a_uses a_dist a_ptLabel a_ptKind a_ptFirst a_ptSecond a_before a_after a_exitOf a_head a_rankOf a_byRank a_codeStart a_codeEnd a_codeOp a_codeDst a_codeMode a_codeX a_codeY a_values a_status a_result a_forks a_outCount a_output a_place :=
  br_c (fun _ => nm_e K) (fun _ => br_f hr (nm_e K))
theorem yw_dstep {post : Int32 → SY → Prop} {l d lim m : Nat} {s : Int32} {vl os ou : Nat → Int32} {w : (Nat → Int32) × Int32 × (Nat → Int32)} (hs : pu_src V B L sz b_code a_stmt a_stmtCount a_term) (hV : V ≤ 8) (hL : L ≤ 6) (hl : l < 16) (hd : d < lim) (hlim : lim ≤ 512) (hD : ∀ v, v < V → pu_has s (nI v) = D v) (hoc : pu_oc w.2.1) (hm : pu_dm V b_val b_outs vl os ou w)
    (K : ∀ vl os ou, pu_dm V b_val b_outs vl os ou (pu_en b_code a_rom 1 l w (sz l)) → ∀ W, W = (pu_en b_code a_rom 1 l w (sz l)).1 →
      (b_code (l * 35 + sz l * 5) = 0 → post 4 ((nI V), (nI B), (nI L), (nI Q), g_cursor, g_points, g_dyn, g_at, (nI l), b_code, a_stmtCount, a_rom, b_init, b_marked, b_pLabel, b_pVal, (upd b_status 1 4), b_result, b_forks, os, ou, vl)) ∧
      (b_code (l * 35 + sz l * 5) = 5 → post 3 ((nI V), (nI B), (nI L), (nI Q), g_cursor, g_points, g_dyn, g_at, (nI l), b_code, a_stmtCount, a_rom, b_init, b_marked, b_pLabel, b_pVal, (upd b_status 1 3), (upd b_result 1 (pu_ov W (b_code (l * 35 + sz l * 5 + 1)))), b_forks, os, ou, vl)) ∧
      (b_code (l * 35 + sz l * 5) = 3 → wY_direct_40 post (nI lim) s m (nI (d + 1)) (nI V) (nI B) (nI L) (nI Q) g_cursor g_points g_dyn g_at (b_code (l * 35 + sz l * 5 + 1)) b_code a_stmtCount a_rom b_init b_marked b_pLabel b_pVal b_status b_result b_forks os ou vl) ∧
      (b_code (l * 35 + sz l * 5) = 4 → wY_direct_40 post (nI lim) s m (nI (d + 1)) (nI V) (nI B) (nI L) (nI Q) g_cursor g_points g_dyn g_at (if pu_ov W (b_code (l * 35 + sz l * 5 + 1)) = 0 then b_code (l * 35 + sz l * 5 + 3) else b_code (l * 35 + sz l * 5 + 2)) b_code a_stmtCount a_rom b_init b_marked b_pLabel b_pVal b_status b_result (if pu_dyo D (b_code (l * 35 + sz l * 5 + 1)) = true then upd b_forks 1 (b_forks 1 + 1) else b_forks) os ou vl)) :
    wY_direct_40 post (nI lim) s (m + 1) (nI d) (nI V) (nI B) (nI L) (nI Q) g_cursor g_points g_dyn g_at (nI l) b_code a_stmtCount a_rom b_init b_marked b_pLabel b_pVal b_status b_result b_forks os ou vl := by
  have hz := Nat.le_trans (sr_sz hs hl) hL
  obtain ⟨m1, m2, m3, m4, m5⟩ := hm
  have ecl : (nI l).toNatClampNeg = l := nI_clamp (by omega)
  refine br_f (nI_ge (by omega) (by omega)) (yw_execm (m := 1) hs rfl hV hL hl (by omega) (by rw [m3]; exact hoc) (fun v2 o2 u2 hen h3 h4 => ?_))
  have hwe : pu_we V ((fun v => vl (1 * 8 + v)), os 1, ou) w := ⟨fun v hv => by show vl (1 * 8 + v) = _; rw [Nat.one_mul]; exact m1 v hv, by rw [m3, m5]⟩
  have hext := en_ext (rom := a_rom) (m := 1) (Nat.le_refl V) hV hwe (sz l) (fun j hj => sr_row hs hl hj)
  rw [← hen] at hext
  obtain ⟨e1, e2⟩ := hext
  dsimp only at e1 e2
  have hm2 : pu_dm V b_val b_outs v2 o2 u2 (pu_en b_code a_rom 1 l w (sz l)) := by
    refine ⟨fun v hv => ?_, fun j hj => ?_, ?_, fun j hj => (h4 j hj).trans (m4 j hj), ?_⟩
    · have := e1 v hv; rw [Nat.one_mul] at this; exact this
    · rw [h3 j (by omega)]; exact m2 j hj
    · rw [← e2]
    · rw [← e2]
  have hov : ∀ o, pu_op V o → pu_ov (fun v => v2 (1 * 8 + v)) o = pu_ov (pu_en b_code a_rom 1 l w (sz l)).1 o := fun o ho => ov_ext hV ho (fun v hv => by rw [Nat.one_mul]; exact hm2.1 v hv)
  have K := K v2 o2 u2 hm2 _ rfl
  generalize (pu_en b_code a_rom 1 l w (sz l)).1 = W at *
  have T0 : (nI (l * 35 + sz l * 5)).toNatClampNeg = l * 35 + sz l * 5 := nI_clamp (by omega)
  have T1 : (nI (l * 35 + sz l * 5) + 1).toNatClampNeg = l * 35 + sz l * 5 + 1 := by rw [ar_a1, nI_clamp (by omega)]
  have T2 : (nI (l * 35 + sz l * 5) + 2).toNatClampNeg = l * 35 + sz l * 5 + 2 := by rw [ar_a2, nI_clamp (by omega)]
  have T3 : (nI (l * 35 + sz l * 5) + 3).toNatClampNeg = l * 35 + sz l * 5 + 3 := by rw [ar_a3, nI_clamp (by omega)]
  have i0 : vp_in (nI (l * 35 + sz l * 5)) 560 := vp_in_nI (by omega) (by omega)
  have i1 : vp_in (nI (l * 35 + sz l * 5) + 1) 560 := by rw [ar_a1]; exact vp_in_nI (by omega) (by omega)
  have i2 : vp_in (nI (l * 35 + sz l * 5) + 2) 560 := by rw [ar_a2]; exact vp_in_nI (by omega) (by omega)
  have i3 : vp_in (nI (l * 35 + sz l * 5) + 3) 560 := by rw [ar_a3]; exact vp_in_nI (by omega) (by omega)
  have iv : vp_in (nI 1) 2 := vp_in_nI (by omega) (by omega)
  refine And.intro (vp_in_nI (by omega) (by omega)) (nm_r (e' := nI (l * 35 + sz l * 5)) (by rw [ecl, sr_cnt hs hl, ar_cd]) (And.intro i0 ?_))
  rw [T0]
  rcases sr_ter hs hl with t | ⟨t, t1⟩ | ⟨t, to, t2, t3⟩ | ⟨t, to⟩
  · have t := t 0 (by omega)
    rw [Nat.add_zero] at t
    exact br_t t (And.intro iv (nm_e (K.1 t)))
  · refine br_f (by rw [t]; decide) (And.intro i0 (br_f (by rw [t]; decide) (And.intro i0 (br_t t (And.intro i1 ?_)))))
    rw [T1]
    exact nm_e (nm_r (ar_a1 d) (K.2.2.1 t))
  · have K4 := K.2.2.2 t
    have fin : ∀ fk : Nat → Int32, fk = (if pu_dyo D (b_code (l * 35 + sz l * 5 + 1)) = true then upd b_forks 1 (b_forks 1 + 1) else b_forks) → wY_direct_185 post (wY_direct_40 post (nI lim) s m) (nI lim) s (nI d) (nI (l * 35 + sz l * 5)) (nI V) (nI B) (nI L) (nI Q) g_cursor g_points g_dyn g_at (nI l) b_code a_stmtCount a_rom b_init b_marked b_pLabel b_pVal b_status b_result fk o2 u2 v2 := by
      intro fk hfk
      rw [← hfk] at K4
      refine And.intro i1 (yw_value (b := 1) (congrArg b_code T1) hV (by omega) to ?_)
      rw [hov _ to]
      refine br_c (fun y => ?_) (fun y => ?_)
      · rw [if_pos y] at K4
        refine And.intro i3 ?_
        rw [T3]
        exact nm_e (nm_r (ar_a1 d) K4)
      · rw [if_neg y] at K4
        refine And.intro i2 ?_
        rw [T2]
        exact nm_e (nm_r (ar_a1 d) K4)
    refine br_f (by rw [t]; decide) (And.intro i0 (br_f (by rw [t]; decide) (And.intro i0 (br_f (by rw [t]; decide) (And.intro i1 (yw_has (fun g => ?_) (fun g => ?_)))))))
    · rw [T1, dyo_has to hV hD] at g
      exact br_f (by decide) (nm_e (fin _ (by rw [if_pos g])))
    · rw [T1, dyo_has to hV hD] at g
      exact br_t rfl (fin _ (by rw [if_neg (by rw [g]; decide)]))
  · refine br_f (by rw [t]; decide) (And.intro i0 (br_t t (And.intro i1 (yw_value (b := 1) (congrArg b_code T1) hV (by omega) to ?_))))
    rw [hov _ to]
    exact nm_e (And.intro iv (nm_e (K.2.1 t)))
theorem dm_tr {V : Nat} {va oa xv oc ou xv' oc' ou' : Nat → Int32} {w w' : (Nat → Int32) × Int32 × (Nat → Int32)} (h1 : pu_dm V va oa xv oc ou w) (h2 : pu_dm V xv oc xv' oc' ou' w') : pu_dm V va oa xv' oc' ou' w' :=
  ⟨h2.1, fun j hj => (h2.2.1 j hj).trans (h1.2.1 j hj), h2.2.2.1, fun j hj => (h2.2.2.2.1 j hj).trans (h1.2.2.2.1 j hj), h2.2.2.2.2⟩
theorem dm_self {V : Nat} {va oa xv oc ou : Nat → Int32} {w : (Nat → Int32) × Int32 × (Nat → Int32)} (h : pu_dm V va oa xv oc ou w) : pu_dm V xv oc xv oc ou w := ⟨h.1, fun _ _ => rfl, h.2.2.1, fun _ _ => rfl, h.2.2.2.2⟩
theorem lk_direct {post : Int32 → SX → Prop} {lim : Nat} (hlim : lim ≤ 512) (hs : pu_src V B L sz b_code a_stmt a_stmtCount a_term) (hV : V ≤ 8) (hL : L ≤ 6) (hB : B ≤ 16) (hD : ∀ v, v < V → (0 ≤ a_dist v ↔ D v = true))
    (K : ∀ (r : Int32) (l : Nat) w xv oc ou pc rs fk rsY fkY, (r = 2 ∨ r = 3 ∨ r = 4) → l < B → pc 1 = nI l → pc 0 = a_place 0 → rs 1 = rsY 1 → rs 0 = a_result 0 → rsY 0 = b_result 0 → fk 1 = fkY 1 → fk 0 = a_forks 0 → fkY 0 = b_forks 0 → pu_oc w.2.1 → pu_dm V a_values a_outCount xv oc ou w →
      (∀ postY : Int32 → SY → Prop, (∀ vl os, pu_dm V b_val b_outs vl os ou w → postY r ((nI V), (nI B), (nI L), (nI Q), g_cursor, g_points, g_dyn, g_at, (nI l), b_code, a_stmtCount, a_rom, b_init, b_marked, b_pLabel, b_pVal, (upd b_status 1 r), rsY, fkY, os, ou, vl)) → YG postY) →
      post r ((nI V), (nI B), (nI L), (nI Q), f_residualMachine, f_directMachine, f_work, f_opMove, f_opOut, f_countCap, f_cursorLabel, f_residual, f_found, f_codeSize, a_stmt, a_stmtCount, a_term, a_rom, a_initial, a_marked, a_uses, a_dist, a_ptLabel, a_ptKind, a_ptFirst, a_ptSecond, a_before, a_after, a_exitOf, a_head, a_rankOf, a_byRank, a_codeStart, a_codeEnd, a_codeOp, a_codeDst, a_codeMode, a_codeX, a_codeY, xv, (upd a_status 1 r), rs, fk, oc, ou, pc)) :
    ∀ e d, d + e = lim → ∀ (l f : Nat) w xv oc ou pc fk fkY, f ≤ d → l < B → pc 1 = nI l → pc 0 = a_place 0 → a_result 1 = b_result 1 → fk 1 = nI f → fkY 1 = nI f → fk 0 = a_forks 0 → fkY 0 = b_forks 0 → pu_oc w.2.1 → pu_dm V a_values a_outCount xv oc ou w →
      (∀ (postY : Int32 → SY → Prop) m, (∀ s vl os, (∀ v, v < V → pu_has s (nI v) = D v) → pu_dm V b_val b_outs vl os ou w → wY_direct_40 postY (nI lim) s m (nI d) (nI V) (nI B) (nI L) (nI Q) g_cursor g_points g_dyn g_at (nI l) b_code a_stmtCount a_rom b_init b_marked b_pLabel b_pVal b_status b_result fkY os ou vl) → YG postY) →
      ∀ k, e < k → wX_direct_32 post (nI lim) k 2 (nI d) (nI V) (nI B) (nI L) (nI Q) f_residualMachine f_directMachine f_work f_opMove f_opOut f_countCap f_cursorLabel f_residual f_found f_codeSize a_stmt a_stmtCount a_term a_rom a_initial a_marked a_uses a_dist a_ptLabel a_ptKind a_ptFirst a_ptSecond a_before a_after a_exitOf a_head a_rankOf a_byRank a_codeStart a_codeEnd a_codeOp a_codeDst a_codeMode a_codeX a_codeY xv a_status a_result fk oc ou pc := by
  intro e
  induction e with
  | zero =>
    intro d hd l f w xv oc ou pc fk fkY hf hl hp1 hp0 hrs hf1 hfy hf0 hfy0 hoc hm RY k hk
    obtain ⟨m, rfl⟩ : ∃ m, k = m + 1 := ⟨k - 1, by omega⟩
    refine br_t (nI_le (by omega) (by omega)) (nm_e (K 2 l w xv oc ou pc a_result fk b_result fkY (Or.inl rfl) hl hp1 hp0 hrs rfl rfl (hf1.trans hfy.symm) hf0 hfy0 hoc hm (fun postY hY => RY postY 1 (fun s vl os hDY hym => ?_))))
    exact br_t (nI_le (by omega) (by omega)) (And.intro (vp_in_nI (n := 1) (by omega) (by omega)) (nm_e (hY vl os hym)))
  | succ e ih =>
    intro d hd l f w xv oc ou pc fk fkY hf hl hp1 hp0 hrs hf1 hfy hf0 hfy0 hoc hm RY k hk
    obtain ⟨m, rfl⟩ : ∃ m, k = m + 1 := ⟨k - 1, by omega⟩
    obtain ⟨m, rfl⟩ : ∃ m', m = m' + 1 := ⟨m - 1, by omega⟩
    have hl16 : l < 16 := by omega
    have hoc' := oc_en (cd := b_code) (rom := a_rom) (m := 1) (l := l) hoc (sz l)
    have step := fun (postY : Int32 → SY → Prop) (m : Nat) (s : Int32) (hDY : ∀ v, v < V → pu_has s (nI v) = D v) (vl os : Nat → Int32) (hym : pu_dm V b_val b_outs vl os ou w) => yw_dstep (post := postY) (m := m) (d := d) (a_rom := a_rom) (b_init := b_init) (b_marked := b_marked) (b_pLabel := b_pLabel) (b_pVal := b_pVal) (b_status := b_status) (b_result := b_result) (b_forks := fkY) (g_cursor := g_cursor) (g_points := g_points) (g_dyn := g_dyn) (g_at := g_at) (Q := Q) (b_val := b_val) (b_outs := b_outs) hs hV hL hl16 (show d < lim by omega) hlim hDY hoc hym
    refine br_f (nI_ge (by omega) (by omega)) (br_t rfl (nm_r hp1 ⟨sz l + 1, ?_⟩))
    refine xw_rb9 hs hV hL hl16 hoc (fun xv' oc' ou' hm' => ?_) (sz l) 0 (by omega) xv oc ou (dm_self hm) _ (by omega)
    have hmm := dm_tr hm hm'
    generalize hwx : pu_en b_code a_rom 1 l w (sz l) = w1 at *
    refine xw_leave hs hV hl16 hD hm'.1 (by rw [hf1]; exact nI_ge (b := 1000000) (by omega) (by omega)) (fun k0 => ?_) (fun k5 to => ?_) (fun k3 => ?_) (fun k4 to => ?_)
    · refine nm_e (xw_d32e (by decide) (K 4 l w1 xv' oc' ou' pc a_result fk b_result fkY (Or.inr (Or.inr rfl)) hl hp1 hp0 hrs rfl rfl (hf1.trans hfy.symm) hf0 hfy0 hoc' hmm (fun postY hY => RY postY 1 (fun s vl os hDY hym => ?_))))
      refine step postY 0 s hDY vl os hym (fun vl os ou hym W hW => ⟨fun _ => ?_, fun z => absurd (k0.symm.trans z) (by decide), fun z => absurd (k0.symm.trans z) (by decide), fun z => absurd (k0.symm.trans z) (by decide)⟩)
      have eo : ou = ou' := hym.2.2.2.2.trans hm'.2.2.2.2.symm
      subst eo
      exact hY vl os hym
    · refine nm_e (xw_d32e (by decide) (K 3 l w1 xv' oc' ou' pc _ fk (upd b_result 1 (pu_ov w1.1 (b_code (l * 35 + sz l * 5 + 1)))) fkY (Or.inr (Or.inl rfl)) hl hp1 hp0 (pk_us.trans pk_us.symm) (pk_un (by decide)) (pk_un (by decide)) (hf1.trans hfy.symm) hf0 hfy0 hoc' hmm (fun postY hY => RY postY 1 (fun s vl os hDY hym => ?_))))
      refine step postY 0 s hDY vl os hym (fun vl os ou hym W hW => ⟨fun z => absurd (k5.symm.trans z) (by decide), fun _ => ?_, fun z => absurd (k5.symm.trans z) (by decide), fun z => absurd (k5.symm.trans z) (by decide)⟩)
      have eo : ou = ou' := hym.2.2.2.2.trans hm'.2.2.2.2.symm
      subst eo
      rw [hW]
      exact hY vl os hym
    · have hlab : ∃ l', l' < B ∧ b_code (l * 35 + sz l * 5 + 1) = nI l' := by
        rcases sr_ter hs hl16 with t | ⟨_, t1⟩ | ⟨t, _⟩ | ⟨t, _⟩
        · have := t 0 (by omega); rw [Nat.add_zero] at this; exact absurd (k3.symm.trans this) (by decide)
        · exact t1
        · exact absurd (k3.symm.trans t) (by decide)
        · exact absurd (k3.symm.trans t) (by decide)
      obtain ⟨l', hl', el'⟩ := hlab
      refine nm_r (ar_a1 d) (ih (d + 1) (by omega) l' f w1 xv' oc' ou' _ fk fkY (by omega) hl' (pk_us.trans el') ((pk_un (by decide)).trans hp0) hrs hf1 hfy hf0 hfy0 hoc' hmm (fun postY m' hY => RY postY (m' + 1) (fun s vl os hDY hym => ?_)) (m + 1) (by omega))
      refine step postY m' s hDY vl os hym (fun vl os ou hym W hW => ⟨fun z => absurd (k3.symm.trans z) (by decide), fun z => absurd (k3.symm.trans z) (by decide), fun _ => ?_, fun z => absurd (k3.symm.trans z) (by decide)⟩)
      have eo : ou = ou' := hym.2.2.2.2.trans hm'.2.2.2.2.symm
      subst eo
      rw [el']
      exact hY s vl os hDY hym
    · have hlab : ∃ l', l' < B ∧ (if pu_ov w1.1 (b_code (l * 35 + sz l * 5 + 1)) = 0 then b_code (l * 35 + sz l * 5 + 3) else b_code (l * 35 + sz l * 5 + 2)) = nI l' := by
        rcases sr_ter hs hl16 with t | ⟨t, _⟩ | ⟨_, _, t2, t3⟩ | ⟨t, _⟩
        · have := t 0 (by omega); rw [Nat.add_zero] at this; exact absurd (k4.symm.trans this) (by decide)
        · exact absurd (k4.symm.trans t) (by decide)
        · split
          · exact t3
          · exact t2
        · exact absurd (k4.symm.trans t) (by decide)
      obtain ⟨l', hl', el'⟩ := hlab
      rw [el']
      by_cases hdy : pu_dyo D (b_code (l * 35 + sz l * 5 + 1)) = true
      · rw [if_pos hdy, hf1, ar_a1]
        refine nm_r (ar_a1 d) (ih (d + 1) (by omega) l' (f + 1) w1 xv' oc' ou' _ _ (upd fkY 1 (nI (f + 1))) (by omega) hl' pk_us ((pk_un (by decide)).trans hp0) hrs pk_us pk_us ((pk_un (by decide)).trans hf0) ((pk_un (by decide)).trans hfy0) hoc' hmm (fun postY m' hY => RY postY (m' + 1) (fun s vl os hDY hym => ?_)) (m + 1) (by omega))
        refine step postY m' s hDY vl os hym (fun vl os ou hym W hW => ⟨fun z => absurd (k4.symm.trans z) (by decide), fun z => absurd (k4.symm.trans z) (by decide), fun z => absurd (k4.symm.trans z) (by decide), fun _ => ?_⟩)
        have eo : ou = ou' := hym.2.2.2.2.trans hm'.2.2.2.2.symm
        subst eo
        rw [hW, el', if_pos hdy, hfy, ar_a1]
        exact hY s vl os hDY hym
      · rw [if_neg hdy]
        refine nm_r (ar_a1 d) (ih (d + 1) (by omega) l' f w1 xv' oc' ou' _ fk fkY (by omega) hl' pk_us ((pk_un (by decide)).trans hp0) hrs hf1 hfy hf0 hfy0 hoc' hmm (fun postY m' hY => RY postY (m' + 1) (fun s vl os hDY hym => ?_)) (m + 1) (by omega))
        refine step postY m' s hDY vl os hym (fun vl os ou hym W hW => ⟨fun z => absurd (k4.symm.trans z) (by decide), fun z => absurd (k4.symm.trans z) (by decide), fun z => absurd (k4.symm.trans z) (by decide), fun _ => ?_⟩)
        have eo : ou = ou' := hym.2.2.2.2.trans hm'.2.2.2.2.symm
        subst eo
        rw [hW, el', if_neg hdy]
        exact hY s vl os hDY hym
end
end
section
section
variable {V B L Q n : Nat} {f_residualMachine f_directMachine f_work f_opMove f_opOut f_countCap f_cursorLabel f_residual f_found f_codeSize : Int32} {a_stmt a_stmtCount a_term a_rom a_initial a_marked a_uses a_dist a_ptLabel a_ptKind a_ptFirst a_ptSecond a_before a_after a_exitOf a_head a_rankOf a_byRank a_codeStart a_codeEnd a_codeOp a_codeDst a_codeMode a_codeX a_codeY a_values a_status a_result a_forks a_outCount a_output a_place : Nat → Int32} {g_cursor g_points g_dyn g_at g_place : Int32} {b_code b_size b_rom b_init b_marked b_pLabel b_pVal b_status b_result b_forks b_outs b_out b_val : Nat → Int32}
theorem xw_begin {post : SX → Prop} {m : Nat} (hV : V ≤ 8) (hm : m < 2)
    (K : ∀ xv : Nat → Int32, (∀ v, v < V → xv (m * 8 + v) = a_initial v) → (∀ j, (j < m * 8 ∨ m * 8 + 8 ≤ j) → xv j = a_values j) → post ((nI V), (nI B), (nI L), (nI Q), f_residualMachine, f_directMachine, f_work, f_opMove, f_opOut, f_countCap, f_cursorLabel, f_residual, f_found, f_codeSize, a_stmt, a_stmtCount, a_term, a_rom, a_initial, a_marked, a_uses, a_dist, a_ptLabel, a_ptKind, a_ptFirst, a_ptSecond, a_before, a_after, a_exitOf, a_head, a_rankOf, a_byRank, a_codeStart, a_codeEnd, a_codeOp, a_codeDst, a_codeMode, a_codeX, a_codeY, xv, a_status, (upd a_result m 0), (upd a_forks m 0), (upd a_outCount m 0), a_output, (upd a_place m 0))) : wpX_begin post ((nI V), (nI B), (nI L), (nI Q), f_residualMachine, f_directMachine, f_work, f_opMove, f_opOut, f_countCap, f_cursorLabel, f_residual, f_found, f_codeSize, a_stmt, a_stmtCount, a_term, a_rom, a_initial, a_marked, a_uses, a_dist, a_ptLabel, a_ptKind, a_ptFirst, a_ptSecond, a_before, a_after, a_exitOf, a_head, a_rankOf, a_byRank, a_codeStart, a_codeEnd, a_codeOp, a_codeDst, a_codeMode, a_codeX, a_codeY, a_values, a_status, a_result, a_forks, a_outCount, a_output, a_place) (nI m) := by
  have im : vp_in (nI m) 2 := vp_in_nI hm (by omega)
  have em : (nI m).toNatClampNeg = m := nI_clamp (by omega)
  have key : ∀ e i, i + e = V → ∀ xv : Nat → Int32, (∀ v, v < i → xv (m * 8 + v) = a_initial v) → (∀ j, (j < m * 8 ∨ m * 8 + 8 ≤ j) → xv j = a_values j) → ∀ k, e < k → wX_begin_30 post (nI m) (nI V) (nI B) (nI L) (nI Q) f_residualMachine f_directMachine f_work f_opMove f_opOut f_countCap f_cursorLabel f_residual f_found f_codeSize k (nI i) a_stmt a_stmtCount a_term a_rom a_initial a_marked a_uses a_dist a_ptLabel a_ptKind a_ptFirst a_ptSecond a_before a_after a_exitOf a_head a_rankOf a_byRank a_codeStart a_codeEnd a_codeOp a_codeDst a_codeMode a_codeX a_codeY xv a_status (upd a_result m 0) (upd a_forks m 0) (upd a_outCount m 0) a_output (upd a_place m 0) := by
    intro e
    induction e with
    | zero =>
      intro i hi xv h1 h2 k hk
      obtain ⟨k', rfl⟩ : ∃ k', k = k' + 1 := ⟨k - 1, by omega⟩
      obtain rfl : V = i := by omega
      exact br_t (nI_le (by omega) (by omega)) (K xv h1 h2)
    | succ e ih =>
      intro i hi xv h1 h2 k hk
      obtain ⟨k', rfl⟩ : ∃ k', k = k' + 1 := ⟨k - 1, by omega⟩
      refine br_f (nI_ge (by omega) (by omega)) (And.intro (vp_in_nI (by omega) (by omega)) (And.intro (by rw [ar_m8]; exact vp_in_nI (by omega) (by omega)) (nm_r (e' := upd xv (m * 8 + i) (a_initial i)) (by rw [ar_m8, nI_clamp (by omega), nI_clamp (by omega)]) (nm_r (ar_a1 i) (ih (i + 1) (by omega) _ (lt_s (fun v hv => ?_) pk_us) (fun j hj => ?_) k' (by omega))))))
      · rw [pk_un (by omega)]; exact h1 v hv
      · rw [pk_un (by omega)]; exact h2 j hj
  refine And.intro im (nm_r (e' := upd a_result m 0) (by rw [em]) (And.intro im (nm_r (e' := upd a_forks m 0) (by rw [em]) (And.intro im (nm_r (e' := upd a_outCount m 0) (by rw [em]) (And.intro im (nm_r (e' := upd a_place m 0) (by rw [em]) ⟨V + 1, ?_⟩)))))))
  exact key V 0 (by omega) a_values (fun v hv => by omega) (fun _ _ => rfl) _ (by omega)
theorem yw_begin {post : SY → Prop} {m : Nat} (hm : m < 2)
    (K : ∀ xv : Nat → Int32, (∀ v, v < 8 → xv (m * 8 + v) = b_init v) → (∀ j, (j < m * 8 ∨ m * 8 + 8 ≤ j) → xv j = b_val j) → post ((nI V), (nI B), (nI L), (nI Q), g_cursor, g_points, g_dyn, g_at, g_place, b_code, b_size, b_rom, b_init, b_marked, b_pLabel, b_pVal, b_status, (upd b_result m 0), (upd b_forks m 0), (upd b_outs m 0), b_out, xv)) : wpY_begin post ((nI V), (nI B), (nI L), (nI Q), g_cursor, g_points, g_dyn, g_at, g_place, b_code, b_size, b_rom, b_init, b_marked, b_pLabel, b_pVal, b_status, b_result, b_forks, b_outs, b_out, b_val) (nI m) := by
  have im : vp_in (nI m) 2 := vp_in_nI hm (by omega)
  have em : (nI m).toNatClampNeg = m := nI_clamp (by omega)
  have key : ∀ e i, i + e = 8 → ∀ xv : Nat → Int32, (∀ v, v < i → xv (m * 8 + v) = b_init v) → (∀ j, (j < m * 8 ∨ m * 8 + 8 ≤ j) → xv j = b_val j) → ∀ k, e < k → wY_begin_23 post (nI m) (nI V) (nI B) (nI L) (nI Q) g_cursor g_points g_dyn g_at g_place k (nI i) b_code b_size b_rom b_init b_marked b_pLabel b_pVal b_status (upd b_result m 0) (upd b_forks m 0) (upd b_outs m 0) b_out xv := by
    intro e
    induction e with
    | zero =>
      intro i hi xv h1 h2 k hk
      obtain ⟨k', rfl⟩ : ∃ k', k = k' + 1 := ⟨k - 1, by omega⟩
      exact br_t (nI_le (a := 8) (by omega) (by omega)) (K xv (fun v hv => h1 v (by omega)) h2)
    | succ e ih =>
      intro i hi xv h1 h2 k hk
      obtain ⟨k', rfl⟩ : ∃ k', k = k' + 1 := ⟨k - 1, by omega⟩
      refine br_f (nI_ge (b := 8) (by omega) (by omega)) (And.intro (vp_in_nI (by omega) (by omega)) (And.intro (by rw [ar_m8]; exact vp_in_nI (by omega) (by omega)) (nm_r (e' := upd xv (m * 8 + i) (b_init i)) (by rw [ar_m8, nI_clamp (by omega), nI_clamp (by omega)]) (nm_r (ar_a1 i) (ih (i + 1) (by omega) _ (lt_s (fun v hv => ?_) pk_us) (fun j hj => ?_) k' (by omega))))))
      · rw [pk_un (by omega)]; exact h1 v hv
      · rw [pk_un (by omega)]; exact h2 j hj
  refine And.intro im (nm_r (e' := upd b_result m 0) (by rw [em]) (And.intro im (nm_r (e' := upd b_forks m 0) (by rw [em]) (And.intro im (nm_r (e' := upd b_outs m 0) (by rw [em]) ⟨9, ?_⟩)))))
  exact key 8 0 (by omega) b_val (fun v hv => by omega) (fun _ _ => rfl) _ (by omega)
end
/-! the relation -/
def pu_D (dist : Nat → Int32) : Nat → Bool := fun v => decide (0 ≤ dist v)
theorem D_iff {dist : Nat → Int32} {v : Nat} : 0 ≤ dist v ↔ pu_D dist v = true := ⟨fun h => decide_eq_true h, fun h => of_decide_eq_true h⟩
/-- the residual machines -/
def pu_ma (V n : Nat) (D : Nat → Bool) (hd af pv : Nat → Int32) (s0 : Int32) (xv pc rs fk oc : Nat → Int32) (yat : Int32) (vl rsY fkY osY : Nat → Int32) : Prop :=
  (s0 = 0 ∧ oc 0 = 0) ∨ ((s0 = 1 ∨ s0 = 2 ∨ s0 = 3 ∨ s0 = 4 ∨ s0 = 5) ∧ ∃ q, q < n ∧ pc 0 = nI q ∧ yat = nI q ∧ rs 0 = rsY 0 ∧ fk 0 = fkY 0 ∧ oc 0 = osY 0 ∧ (∀ v, v < V → D v = true → xv v = vl v) ∧
    (∀ v, v < V → D v = false → vl v = if s0 = 3 ∨ s0 = 4 then af (q * 8 + v) else pv (q * 8 + v)) ∧ ((s0 = 1 ∨ s0 = 2) → ¬ hd q = 0))
/-- the direct machines -/
def pu_dr (V : Nat) (s1 : Int32) (xv rs fk oc vl rsY fkY osY : Nat → Int32) : Prop :=
  (∀ v, v < V → xv (8 + v) = vl (8 + v)) ∧ rs 1 = rsY 1 ∧ fk 1 = fkY 1 ∧ oc 1 = osY 1 ∧ pu_oc (oc 1) ∧ (s1 = 0 → oc 1 = 0)
def pu_F (V B L Q C : Nat) (sz : Nat → Nat) (f_residual f_found : Int32) (a_stmt a_stmtCount a_term a_rom a_initial a_marked a_uses a_dist a_ptLabel a_ptKind a_ptFirst a_ptSecond a_before a_after a_exitOf a_head a_rankOf a_byRank a_codeStart a_codeEnd a_codeOp a_codeDst a_codeMode a_codeX a_codeY a_values a_status a_result a_forks a_outCount a_output a_place : Nat → Int32) (g_points g_dyn g_at : Int32) (b_code b_pLabel b_pVal b_result b_forks b_outs b_val : Nat → Int32) : Prop :=
  ((2 ≤ V ∧ V ≤ 8) ∧ (2 ≤ B ∧ B ≤ 16) ∧ (1 ≤ L ∧ L ≤ 6) ∧ (4 ≤ Q ∧ Q ≤ 32) ∧ C < B) ∧
  pu_src V B L sz b_code a_stmt a_stmtCount a_term ∧
  (∀ v u, v < V → u < V → a_uses (v * 8 + u) = nI (pu_us b_code sz v u 16)) ∧
  (∀ v, v < V → pu_dist V a_marked (pu_dep sz b_code) v (a_dist v)) ∧
  (∀ v, V ≤ v → v < 8 → a_initial v = 0) ∧
  pu_dr V (a_status 1) a_values a_result a_forks a_outCount b_val b_result b_forks b_outs ∧
  ((f_residual = 0 ∧ g_points = 0 ∧ a_status 0 = 0 ∧ a_outCount 0 = 0) ∨
   (f_residual = 1 ∧ ∃ n, f_found = nI n ∧ g_points = nI n ∧
    pu_res V B n b_code a_rom sz (pu_D a_dist) g_dyn a_ptLabel a_ptKind a_ptFirst a_ptSecond a_before a_after a_exitOf a_head a_rankOf a_byRank a_codeStart a_codeEnd a_codeOp a_codeDst a_codeMode a_codeX a_codeY b_pLabel b_pVal ∧
    (∀ v, v < V → pu_D a_dist v = false → b_pVal v = a_initial v) ∧ pu_oc (a_outCount 0) ∧
    pu_ma V n (pu_D a_dist) a_head a_after b_pVal (a_status 0) a_values a_place a_result a_forks a_outCount g_at b_val b_result b_forks b_outs))
def i_Rel (k : Nat) (u : SX) (v : SY) : Prop :=
  ∃ (V B L Q C : Nat) (sz : Nat → Nat) (g_points g_dyn g_at : Int32) (b_code b_pLabel b_pVal b_result b_forks b_outs b_val : Nat → Int32),
    u = ((nI V), (nI B), (nI L), (nI Q), u.2.2.2.2.1, u.2.2.2.2.2.1, u.2.2.2.2.2.2.1, u.2.2.2.2.2.2.2.1, u.2.2.2.2.2.2.2.2.1, u.2.2.2.2.2.2.2.2.2.1, (nI C), u.2.2.2.2.2.2.2.2.2.2.2.1, u.2.2.2.2.2.2.2.2.2.2.2.2.1, u.2.2.2.2.2.2.2.2.2.2.2.2.2.1, u.2.2.2.2.2.2.2.2.2.2.2.2.2.2.1, u.2.2.2.2.2.2.2.2.2.2.2.2.2.2.2.1, u.2.2.2.2.2.2.2.2.2.2.2.2.2.2.2.2.1, u.2.2.2.2.2.2.2.2.2.2.2.2.2.2.2.2.2.1, u.2.2.2.2.2.2.2.2.2.2.2.2.2.2.2.2.2.2.1, u.2.2.2.2.2.2.2.2.2.2.2.2.2.2.2.2.2.2.2.1, u.2.2.2.2.2.2.2.2.2.2.2.2.2.2.2.2.2.2.2.2.1, u.2.2.2.2.2.2.2.2.2.2.2.2.2.2.2.2.2.2.2.2.2.1, u.2.2.2.2.2.2.2.2.2.2.2.2.2.2.2.2.2.2.2.2.2.2.1, u.2.2.2.2.2.2.2.2.2.2.2.2.2.2.2.2.2.2.2.2.2.2.2.1, u.2.2.2.2.2.2.2.2.2.2.2.2.2.2.2.2.2.2.2.2.2.2.2.2.1, u.2.2.2.2.2.2.2.2.2.2.2.2.2.2.2.2.2.2.2.2.2.2.2.2.2.1, u.2.2.2.2.2.2.2.2.2.2.2.2.2.2.2.2.2.2.2.2.2.2.2.2.2.2.1, u.2.2.2.2.2.2.2.2.2.2.2.2.2.2.2.2.2.2.2.2.2.2.2.2.2.2.2.1, u.2.2.2.2.2.2.2.2.2.2.2.2.2.2.2.2.2.2.2.2.2.2.2.2.2.2.2.2.1, u.2.2.2.2.2.2.2.2.2.2.2.2.2.2.2.2.2.2.2.2.2.2.2.2.2.2.2.2.2.1, u.2.2.2.2.2.2.2.2.2.2.2.2.2.2.2.2.2.2.2.2.2.2.2.2.2.2.2.2.2.2.1, u.2.2.2.2.2.2.2.2.2.2.2.2.2.2.2.2.2.2.2.2.2.2.2.2.2.2.2.2.2.2.2.1, u.2.2.2.2.2.2.2.2.2.2.2.2.2.2.2.2.2.2.2.2.2.2.2.2.2.2.2.2.2.2.2.2.1, u.2.2.2.2.2.2.2.2.2.2.2.2.2.2.2.2.2.2.2.2.2.2.2.2.2.2.2.2.2.2.2.2.2.1, u.2.2.2.2.2.2.2.2.2.2.2.2.2.2.2.2.2.2.2.2.2.2.2.2.2.2.2.2.2.2.2.2.2.2.1, u.2.2.2.2.2.2.2.2.2.2.2.2.2.2.2.2.2.2.2.2.2.2.2.2.2.2.2.2.2.2.2.2.2.2.2.1, u.2.2.2.2.2.2.2.2.2.2.2.2.2.2.2.2.2.2.2.2.2.2.2.2.2.2.2.2.2.2.2.2.2.2.2.2.1, u.2.2.2.2.2.2.2.2.2.2.2.2.2.2.2.2.2.2.2.2.2.2.2.2.2.2.2.2.2.2.2.2.2.2.2.2.2.1, u.2.2.2.2.2.2.2.2.2.2.2.2.2.2.2.2.2.2.2.2.2.2.2.2.2.2.2.2.2.2.2.2.2.2.2.2.2.2.1, u.2.2.2.2.2.2.2.2.2.2.2.2.2.2.2.2.2.2.2.2.2.2.2.2.2.2.2.2.2.2.2.2.2.2.2.2.2.2.2.1, u.2.2.2.2.2.2.2.2.2.2.2.2.2.2.2.2.2.2.2.2.2.2.2.2.2.2.2.2.2.2.2.2.2.2.2.2.2.2.2.2.1, u.2.2.2.2.2.2.2.2.2.2.2.2.2.2.2.2.2.2.2.2.2.2.2.2.2.2.2.2.2.2.2.2.2.2.2.2.2.2.2.2.2.1, u.2.2.2.2.2.2.2.2.2.2.2.2.2.2.2.2.2.2.2.2.2.2.2.2.2.2.2.2.2.2.2.2.2.2.2.2.2.2.2.2.2.2.1, u.2.2.2.2.2.2.2.2.2.2.2.2.2.2.2.2.2.2.2.2.2.2.2.2.2.2.2.2.2.2.2.2.2.2.2.2.2.2.2.2.2.2.2.1, u.2.2.2.2.2.2.2.2.2.2.2.2.2.2.2.2.2.2.2.2.2.2.2.2.2.2.2.2.2.2.2.2.2.2.2.2.2.2.2.2.2.2.2.2.1, u.2.2.2.2.2.2.2.2.2.2.2.2.2.2.2.2.2.2.2.2.2.2.2.2.2.2.2.2.2.2.2.2.2.2.2.2.2.2.2.2.2.2.2.2.2) ∧ v = (nI V, nI B, nI L, nI Q, nI C, g_points, g_dyn, g_at, u.2.2.2.2.2.2.2.2.2.2.2.2.2.2.2.2.2.2.2.2.2.2.2.2.2.2.2.2.2.2.2.2.2.2.2.2.2.2.2.2.2.2.2.2.2 1, b_code, u.2.2.2.2.2.2.2.2.2.2.2.2.2.2.2.1, u.2.2.2.2.2.2.2.2.2.2.2.2.2.2.2.2.2.1, u.2.2.2.2.2.2.2.2.2.2.2.2.2.2.2.2.2.2.1, u.2.2.2.2.2.2.2.2.2.2.2.2.2.2.2.2.2.2.2.1, b_pLabel, b_pVal, u.2.2.2.2.2.2.2.2.2.2.2.2.2.2.2.2.2.2.2.2.2.2.2.2.2.2.2.2.2.2.2.2.2.2.2.2.2.2.2.2.1, b_result, b_forks, b_outs, u.2.2.2.2.2.2.2.2.2.2.2.2.2.2.2.2.2.2.2.2.2.2.2.2.2.2.2.2.2.2.2.2.2.2.2.2.2.2.2.2.2.2.2.2.1, b_val) ∧
    pu_F V B L Q C sz u.2.2.2.2.2.2.2.2.2.2.2.1 u.2.2.2.2.2.2.2.2.2.2.2.2.1 u.2.2.2.2.2.2.2.2.2.2.2.2.2.2.1 u.2.2.2.2.2.2.2.2.2.2.2.2.2.2.2.1 u.2.2.2.2.2.2.2.2.2.2.2.2.2.2.2.2.1 u.2.2.2.2.2.2.2.2.2.2.2.2.2.2.2.2.2.1 u.2.2.2.2.2.2.2.2.2.2.2.2.2.2.2.2.2.2.1 u.2.2.2.2.2.2.2.2.2.2.2.2.2.2.2.2.2.2.2.1 u.2.2.2.2.2.2.2.2.2.2.2.2.2.2.2.2.2.2.2.2.1 u.2.2.2.2.2.2.2.2.2.2.2.2.2.2.2.2.2.2.2.2.2.1 u.2.2.2.2.2.2.2.2.2.2.2.2.2.2.2.2.2.2.2.2.2.2.1 u.2.2.2.2.2.2.2.2.2.2.2.2.2.2.2.2.2.2.2.2.2.2.2.1 u.2.2.2.2.2.2.2.2.2.2.2.2.2.2.2.2.2.2.2.2.2.2.2.2.1 u.2.2.2.2.2.2.2.2.2.2.2.2.2.2.2.2.2.2.2.2.2.2.2.2.2.1 u.2.2.2.2.2.2.2.2.2.2.2.2.2.2.2.2.2.2.2.2.2.2.2.2.2.2.1 u.2.2.2.2.2.2.2.2.2.2.2.2.2.2.2.2.2.2.2.2.2.2.2.2.2.2.2.1 u.2.2.2.2.2.2.2.2.2.2.2.2.2.2.2.2.2.2.2.2.2.2.2.2.2.2.2.2.1 u.2.2.2.2.2.2.2.2.2.2.2.2.2.2.2.2.2.2.2.2.2.2.2.2.2.2.2.2.2.1 u.2.2.2.2.2.2.2.2.2.2.2.2.2.2.2.2.2.2.2.2.2.2.2.2.2.2.2.2.2.2.1 u.2.2.2.2.2.2.2.2.2.2.2.2.2.2.2.2.2.2.2.2.2.2.2.2.2.2.2.2.2.2.2.1 u.2.2.2.2.2.2.2.2.2.2.2.2.2.2.2.2.2.2.2.2.2.2.2.2.2.2.2.2.2.2.2.2.1 u.2.2.2.2.2.2.2.2.2.2.2.2.2.2.2.2.2.2.2.2.2.2.2.2.2.2.2.2.2.2.2.2.2.1 u.2.2.2.2.2.2.2.2.2.2.2.2.2.2.2.2.2.2.2.2.2.2.2.2.2.2.2.2.2.2.2.2.2.2.1 u.2.2.2.2.2.2.2.2.2.2.2.2.2.2.2.2.2.2.2.2.2.2.2.2.2.2.2.2.2.2.2.2.2.2.2.1 u.2.2.2.2.2.2.2.2.2.2.2.2.2.2.2.2.2.2.2.2.2.2.2.2.2.2.2.2.2.2.2.2.2.2.2.2.1 u.2.2.2.2.2.2.2.2.2.2.2.2.2.2.2.2.2.2.2.2.2.2.2.2.2.2.2.2.2.2.2.2.2.2.2.2.2.1 u.2.2.2.2.2.2.2.2.2.2.2.2.2.2.2.2.2.2.2.2.2.2.2.2.2.2.2.2.2.2.2.2.2.2.2.2.2.2.1 u.2.2.2.2.2.2.2.2.2.2.2.2.2.2.2.2.2.2.2.2.2.2.2.2.2.2.2.2.2.2.2.2.2.2.2.2.2.2.2.1 u.2.2.2.2.2.2.2.2.2.2.2.2.2.2.2.2.2.2.2.2.2.2.2.2.2.2.2.2.2.2.2.2.2.2.2.2.2.2.2.2.1 u.2.2.2.2.2.2.2.2.2.2.2.2.2.2.2.2.2.2.2.2.2.2.2.2.2.2.2.2.2.2.2.2.2.2.2.2.2.2.2.2.2.1 u.2.2.2.2.2.2.2.2.2.2.2.2.2.2.2.2.2.2.2.2.2.2.2.2.2.2.2.2.2.2.2.2.2.2.2.2.2.2.2.2.2.2.1 u.2.2.2.2.2.2.2.2.2.2.2.2.2.2.2.2.2.2.2.2.2.2.2.2.2.2.2.2.2.2.2.2.2.2.2.2.2.2.2.2.2.2.2.1 u.2.2.2.2.2.2.2.2.2.2.2.2.2.2.2.2.2.2.2.2.2.2.2.2.2.2.2.2.2.2.2.2.2.2.2.2.2.2.2.2.2.2.2.2.1 u.2.2.2.2.2.2.2.2.2.2.2.2.2.2.2.2.2.2.2.2.2.2.2.2.2.2.2.2.2.2.2.2.2.2.2.2.2.2.2.2.2.2.2.2.2 g_points g_dyn g_at b_code b_pLabel b_pVal b_result b_forks b_outs b_val
theorem zz_in {k V B L Q C : Nat} {sz : Nat → Nat} {f_residualMachine f_directMachine f_work f_opMove f_opOut f_countCap f_residual f_found f_codeSize : Int32} {a_stmt a_stmtCount a_term a_rom a_initial a_marked a_uses a_dist a_ptLabel a_ptKind a_ptFirst a_ptSecond a_before a_after a_exitOf a_head a_rankOf a_byRank a_codeStart a_codeEnd a_codeOp a_codeDst a_codeMode a_codeX a_codeY a_values a_status a_result a_forks a_outCount a_output a_place : Nat → Int32} {g_points g_dyn g_at : Int32} {b_code b_pLabel b_pVal b_result b_forks b_outs b_val : Nat → Int32}
    (F : pu_F V B L Q C sz f_residual f_found a_stmt a_stmtCount a_term a_rom a_initial a_marked a_uses a_dist a_ptLabel a_ptKind a_ptFirst a_ptSecond a_before a_after a_exitOf a_head a_rankOf a_byRank a_codeStart a_codeEnd a_codeOp a_codeDst a_codeMode a_codeX a_codeY a_values a_status a_result a_forks a_outCount a_output a_place g_points g_dyn g_at b_code b_pLabel b_pVal b_result b_forks b_outs b_val) : i_Rel k ((nI V), (nI B), (nI L), (nI Q), f_residualMachine, f_directMachine, f_work, f_opMove, f_opOut, f_countCap, (nI C), f_residual, f_found, f_codeSize, a_stmt, a_stmtCount, a_term, a_rom, a_initial, a_marked, a_uses, a_dist, a_ptLabel, a_ptKind, a_ptFirst, a_ptSecond, a_before, a_after, a_exitOf, a_head, a_rankOf, a_byRank, a_codeStart, a_codeEnd, a_codeOp, a_codeDst, a_codeMode, a_codeX, a_codeY, a_values, a_status, a_result, a_forks, a_outCount, a_output, a_place) ((nI V), (nI B), (nI L), (nI Q), (nI C), g_points, g_dyn, g_at, (a_place 1), b_code, a_stmtCount, a_rom, a_initial, a_marked, b_pLabel, b_pVal, a_status, b_result, b_forks, b_outs, a_output, b_val) :=
  ⟨V, B, L, Q, C, sz, g_points, g_dyn, g_at, b_code, b_pLabel, b_pVal, b_result, b_forks, b_outs, b_val, rfl, rfl, F⟩
theorem zz_el {k : Nat} {u : SX} {v : SY} {P : SX → SY → Prop} (I : i_Rel k u v)
    (h : ∀ (V B L Q C : Nat) (sz : Nat → Nat) (f_residualMachine f_directMachine f_work f_opMove f_opOut f_countCap f_residual f_found f_codeSize : Int32) (a_stmt a_stmtCount a_term a_rom a_initial a_marked a_uses a_dist a_ptLabel a_ptKind a_ptFirst a_ptSecond a_before a_after a_exitOf a_head a_rankOf a_byRank a_codeStart a_codeEnd a_codeOp a_codeDst a_codeMode a_codeX a_codeY a_values a_status a_result a_forks a_outCount a_output a_place : Nat → Int32) (g_points g_dyn g_at : Int32) (b_code b_pLabel b_pVal b_result b_forks b_outs b_val : Nat → Int32),
      pu_F V B L Q C sz f_residual f_found a_stmt a_stmtCount a_term a_rom a_initial a_marked a_uses a_dist a_ptLabel a_ptKind a_ptFirst a_ptSecond a_before a_after a_exitOf a_head a_rankOf a_byRank a_codeStart a_codeEnd a_codeOp a_codeDst a_codeMode a_codeX a_codeY a_values a_status a_result a_forks a_outCount a_output a_place g_points g_dyn g_at b_code b_pLabel b_pVal b_result b_forks b_outs b_val → P ((nI V), (nI B), (nI L), (nI Q), f_residualMachine, f_directMachine, f_work, f_opMove, f_opOut, f_countCap, (nI C), f_residual, f_found, f_codeSize, a_stmt, a_stmtCount, a_term, a_rom, a_initial, a_marked, a_uses, a_dist, a_ptLabel, a_ptKind, a_ptFirst, a_ptSecond, a_before, a_after, a_exitOf, a_head, a_rankOf, a_byRank, a_codeStart, a_codeEnd, a_codeOp, a_codeDst, a_codeMode, a_codeX, a_codeY, a_values, a_status, a_result, a_forks, a_outCount, a_output, a_place) ((nI V), (nI B), (nI L), (nI Q), (nI C), g_points, g_dyn, g_at, (a_place 1), b_code, a_stmtCount, a_rom, a_initial, a_marked, b_pLabel, b_pVal, a_status, b_result, b_forks, b_outs, a_output, b_val)) : P u v := by
  obtain ⟨V, B, L, Q, C, sz, g_points, g_dyn, g_at, b_code, b_pLabel, b_pVal, b_result, b_forks, b_outs, b_val, hu, hv, F⟩ := I
  exact Eq.subst (motive := fun z => P z v) hu.symm (Eq.subst (motive := fun z => P _ z) hv.symm (h V B L Q C sz u.2.2.2.2.1 u.2.2.2.2.2.1 u.2.2.2.2.2.2.1 u.2.2.2.2.2.2.2.1 u.2.2.2.2.2.2.2.2.1 u.2.2.2.2.2.2.2.2.2.1 u.2.2.2.2.2.2.2.2.2.2.2.1 u.2.2.2.2.2.2.2.2.2.2.2.2.1 u.2.2.2.2.2.2.2.2.2.2.2.2.2.1 u.2.2.2.2.2.2.2.2.2.2.2.2.2.2.1 u.2.2.2.2.2.2.2.2.2.2.2.2.2.2.2.1 u.2.2.2.2.2.2.2.2.2.2.2.2.2.2.2.2.1 u.2.2.2.2.2.2.2.2.2.2.2.2.2.2.2.2.2.1 u.2.2.2.2.2.2.2.2.2.2.2.2.2.2.2.2.2.2.1 u.2.2.2.2.2.2.2.2.2.2.2.2.2.2.2.2.2.2.2.1 u.2.2.2.2.2.2.2.2.2.2.2.2.2.2.2.2.2.2.2.2.1 u.2.2.2.2.2.2.2.2.2.2.2.2.2.2.2.2.2.2.2.2.2.1 u.2.2.2.2.2.2.2.2.2.2.2.2.2.2.2.2.2.2.2.2.2.2.1 u.2.2.2.2.2.2.2.2.2.2.2.2.2.2.2.2.2.2.2.2.2.2.2.1 u.2.2.2.2.2.2.2.2.2.2.2.2.2.2.2.2.2.2.2.2.2.2.2.2.1 u.2.2.2.2.2.2.2.2.2.2.2.2.2.2.2.2.2.2.2.2.2.2.2.2.2.1 u.2.2.2.2.2.2.2.2.2.2.2.2.2.2.2.2.2.2.2.2.2.2.2.2.2.2.1 u.2.2.2.2.2.2.2.2.2.2.2.2.2.2.2.2.2.2.2.2.2.2.2.2.2.2.2.1 u.2.2.2.2.2.2.2.2.2.2.2.2.2.2.2.2.2.2.2.2.2.2.2.2.2.2.2.2.1 u.2.2.2.2.2.2.2.2.2.2.2.2.2.2.2.2.2.2.2.2.2.2.2.2.2.2.2.2.2.1 u.2.2.2.2.2.2.2.2.2.2.2.2.2.2.2.2.2.2.2.2.2.2.2.2.2.2.2.2.2.2.1 u.2.2.2.2.2.2.2.2.2.2.2.2.2.2.2.2.2.2.2.2.2.2.2.2.2.2.2.2.2.2.2.1 u.2.2.2.2.2.2.2.2.2.2.2.2.2.2.2.2.2.2.2.2.2.2.2.2.2.2.2.2.2.2.2.2.1 u.2.2.2.2.2.2.2.2.2.2.2.2.2.2.2.2.2.2.2.2.2.2.2.2.2.2.2.2.2.2.2.2.2.1 u.2.2.2.2.2.2.2.2.2.2.2.2.2.2.2.2.2.2.2.2.2.2.2.2.2.2.2.2.2.2.2.2.2.2.1 u.2.2.2.2.2.2.2.2.2.2.2.2.2.2.2.2.2.2.2.2.2.2.2.2.2.2.2.2.2.2.2.2.2.2.2.1 u.2.2.2.2.2.2.2.2.2.2.2.2.2.2.2.2.2.2.2.2.2.2.2.2.2.2.2.2.2.2.2.2.2.2.2.2.1 u.2.2.2.2.2.2.2.2.2.2.2.2.2.2.2.2.2.2.2.2.2.2.2.2.2.2.2.2.2.2.2.2.2.2.2.2.2.1 u.2.2.2.2.2.2.2.2.2.2.2.2.2.2.2.2.2.2.2.2.2.2.2.2.2.2.2.2.2.2.2.2.2.2.2.2.2.2.1 u.2.2.2.2.2.2.2.2.2.2.2.2.2.2.2.2.2.2.2.2.2.2.2.2.2.2.2.2.2.2.2.2.2.2.2.2.2.2.2.1 u.2.2.2.2.2.2.2.2.2.2.2.2.2.2.2.2.2.2.2.2.2.2.2.2.2.2.2.2.2.2.2.2.2.2.2.2.2.2.2.2.1 u.2.2.2.2.2.2.2.2.2.2.2.2.2.2.2.2.2.2.2.2.2.2.2.2.2.2.2.2.2.2.2.2.2.2.2.2.2.2.2.2.2.1 u.2.2.2.2.2.2.2.2.2.2.2.2.2.2.2.2.2.2.2.2.2.2.2.2.2.2.2.2.2.2.2.2.2.2.2.2.2.2.2.2.2.2.1 u.2.2.2.2.2.2.2.2.2.2.2.2.2.2.2.2.2.2.2.2.2.2.2.2.2.2.2.2.2.2.2.2.2.2.2.2.2.2.2.2.2.2.2.1 u.2.2.2.2.2.2.2.2.2.2.2.2.2.2.2.2.2.2.2.2.2.2.2.2.2.2.2.2.2.2.2.2.2.2.2.2.2.2.2.2.2.2.2.2.1 u.2.2.2.2.2.2.2.2.2.2.2.2.2.2.2.2.2.2.2.2.2.2.2.2.2.2.2.2.2.2.2.2.2.2.2.2.2.2.2.2.2.2.2.2.2 g_points g_dyn g_at b_code b_pLabel b_pVal b_result b_forks b_outs b_val F))
end
section
theorem i_up {k : Nat} {u : SX} {v : SY} (h : i_Rel k u v) : i_Rel (k + 5) u v := h
def pu_cl (x lo hi : Int32) : Int32 := if lo ≤ x then (if x ≤ hi then x else hi) else lo
theorem cl_n (x : Int32) (lo hi : Nat) (h : lo ≤ hi) (hh : hi < 2 ^ 31) : ∃ j, lo ≤ j ∧ j ≤ hi ∧ pu_cl x (nI lo) (nI hi) = nI j := by
  unfold pu_cl
  by_cases h1 : nI lo ≤ x
  · rw [if_pos h1]
    have h0 : ¬ x < 0 := ar_nlt (Int32.le_trans (nI_pos' (by omega)) h1)
    obtain ⟨j, hj, rfl⟩ := nI_of h0
    rw [nI_leI (by omega) hj] at h1
    by_cases h2 : nI j ≤ nI hi
    · rw [if_pos h2]
      rw [nI_leI hj hh] at h2
      exact ⟨j, h1, h2, rfl⟩
    · rw [if_neg h2]; exact ⟨hi, h, Nat.le_refl _, rfl⟩
  · rw [if_neg h1]; exact ⟨lo, Nat.le_refl _, h, rfl⟩
section
variable {f_varCount f_blockCount f_stmtLimit f_pointLimit f_residualMachine f_directMachine f_work f_opMove f_opOut f_countCap f_cursorLabel f_residual f_found f_codeSize : Int32} {a_stmt a_stmtCount a_term a_rom a_initial a_marked a_uses a_dist a_ptLabel a_ptKind a_ptFirst a_ptSecond a_before a_after a_exitOf a_head a_rankOf a_byRank a_codeStart a_codeEnd a_codeOp a_codeDst a_codeMode a_codeX a_codeY a_values a_status a_result a_forks a_outCount a_output a_place : Nat → Int32} {g_vars g_blocks g_stmts g_limit g_cursor g_points g_dyn g_at g_place : Int32} {b_code b_size b_rom b_init b_marked b_pLabel b_pVal b_status b_result b_forks b_outs b_out b_val : Nat → Int32}
theorem xw_clamp {post : Int32 → Prop} {x lo hi : Int32} (K : post (pu_cl x lo hi)) : wpX_clamp post (f_varCount, f_blockCount, f_stmtLimit, f_pointLimit, f_residualMachine, f_directMachine, f_work, f_opMove, f_opOut, f_countCap, f_cursorLabel, f_residual, f_found, f_codeSize, a_stmt, a_stmtCount, a_term, a_rom, a_initial, a_marked, a_uses, a_dist, a_ptLabel, a_ptKind, a_ptFirst, a_ptSecond, a_before, a_after, a_exitOf, a_head, a_rankOf, a_byRank, a_codeStart, a_codeEnd, a_codeOp, a_codeDst, a_codeMode, a_codeX, a_codeY, a_values, a_status, a_result, a_forks, a_outCount, a_output, a_place) x lo hi := by
  unfold pu_cl at K
  refine br_c (fun h => ?_) (fun h => ?_)
  · rw [if_pos h] at K
    refine br_c (fun g => ?_) (fun g => ?_)
    · rw [if_pos g] at K; exact K
    · rw [if_neg g] at K; exact K
  · rw [if_neg h] at K; exact K
theorem yw_clamp {post : Int32 → Prop} {x lo hi : Int32} (K : post (pu_cl x lo hi)) : wpY_clamp post (g_vars, g_blocks, g_stmts, g_limit, g_cursor, g_points, g_dyn, g_at, g_place, b_code, b_size, b_rom, b_init, b_marked, b_pLabel, b_pVal, b_status, b_result, b_forks, b_outs, b_out, b_val) x lo hi := by
  unfold pu_cl at K
  refine br_c (fun h => ?_) (fun h => ?_)
  · rw [if_pos h] at K
    refine br_c (fun g => ?_) (fun g => ?_)
    · rw [if_pos g] at K; exact K
    · rw [if_neg g] at K; exact K
  · rw [if_neg h] at K; exact K
end
theorem us_0 (v u : Nat) : ∀ m, pu_us (fun _ => 0) (fun _ => 0) v u m = 0 := by
  intro m
  induction m with
  | zero => rfl
  | succ m ih => show pu_us (fun _ => 0) (fun _ => 0) v u m + 0 = 0; rw [ih]
theorem i_vc0 (k0 : Int32) (k1 : Int32) (k2 : Int32) (k3 : Int32) : wpX_init (fun u => wpY_init (fun v => i_Rel 4 u v) k0 k1 k2 k3) k0 k1 k2 k3 := by
  obtain ⟨V, hV2, hV, eV⟩ := cl_n k0 2 8 (by omega) (by omega)
  obtain ⟨B, hB2, hB, eB⟩ := cl_n k1 2 16 (by omega) (by omega)
  obtain ⟨L, hL1, hL, eL⟩ := cl_n k2 1 6 (by omega) (by omega)
  obtain ⟨Q, hQ4, hQ, eQ⟩ := cl_n k3 4 32 (by omega) (by omega)
  have eV : pu_cl k0 2 8 = nI V := eV
  have eB : pu_cl k1 2 16 = nI B := eB
  have eL : pu_cl k2 1 6 = nI L := eL
  have eQ : pu_cl k3 4 32 = nI Q := eQ
  unfold wpX_init
  refine xw_clamp ?_
  rw [eV]
  refine xw_clamp ?_
  rw [eB]
  refine xw_clamp ?_
  rw [eL]
  refine xw_clamp ?_
  rw [eQ]
  refine xw_analyse (dep := pu_dep (fun _ => 0) (fun _ => 0)) (by omega) hV (fun v u _ _ => ⟨fun z => absurd z (by decide), fun ⟨l, i, _, hi, _⟩ => absurd hi (Nat.not_lt_zero i)⟩) (fun a_dist hdist => ?_)
  unfold wpY_init
  refine yw_clamp ?_
  rw [eV]
  refine yw_clamp ?_
  rw [eB]
  refine yw_clamp ?_
  rw [eL]
  refine yw_clamp ?_
  rw [eQ]
  refine zz_in (C := 0) (sz := fun _ => 0) ⟨⟨⟨hV2, hV⟩, ⟨hB2, hB⟩, ⟨hL1, hL⟩, ⟨hQ4, hQ⟩, by omega⟩, ⟨fun l _ => ⟨rfl, Nat.zero_le L⟩, fun l i f _ hi => absurd hi (Nat.not_lt_zero i), fun l f _ _ => rfl, fun l i _ hi => absurd hi (Nat.not_lt_zero i), fun l _ => Or.inl (fun _ _ => rfl), fun l i f _ _ _ _ => rfl⟩, fun v u _ _ => by rw [us_0]; rfl, hdist, fun _ _ _ => rfl, ⟨fun _ _ => rfl, rfl, rfl, rfl, ⟨0, by omega, rfl⟩, fun _ => rfl⟩, Or.inl ⟨rfl, rfl, rfl, rfl⟩⟩
end
section
theorem i_vc_source {k : Nat} {u : SX} {v : SY} (I : i_Rel k u v) (hk : k + 5 ≤ 2564) (v1 : Int32) (v2 : Int32) (v3 : Int32) : wpX_source (fun r => wpY_source (fun r' => r' = r ∧ i_Rel (k + 5) u v) v v1 v2 v3) u v1 v2 v3 := by
  refine zz_el (P := fun u v => wpX_source (fun r => wpY_source (fun r' => r' = r ∧ i_Rel (k + 5) u v) v v1 v2 v3) u v1 v2 v3) I ?_
  intro V B L Q C sz f_residualMachine f_directMachine f_work f_opMove f_opOut f_countCap f_residual f_found f_codeSize a_stmt a_stmtCount a_term a_rom a_initial a_marked a_uses a_dist a_ptLabel a_ptKind a_ptFirst a_ptSecond a_before a_after a_exitOf a_head a_rankOf a_byRank a_codeStart a_codeEnd a_codeOp a_codeDst a_codeMode a_codeX a_codeY a_values a_status a_result a_forks a_outCount a_output a_place g_points g_dyn g_at b_code b_pLabel b_pVal b_result b_forks b_outs b_val F
  obtain ⟨⟨⟨hV2, hV⟩, ⟨hB2, hB⟩, ⟨hL1, hL⟩, ⟨hQ4, hQ⟩, hC⟩, hs, hu, hd, hi, hdr, hr⟩ := id F
  unfold wpX_source
  rcases pk_ix v1 (n := B) (by omega) with h | h | ⟨l, hl, rfl⟩
  · refine xw_lab0 (Or.inl h) (br_t rfl ?_)
    unfold wpY_source
    exact yw_lab0 (Or.inl h) (br_f (by decide) ⟨rfl, zz_in F⟩)
  · refine xw_lab0 (Or.inr h) (br_t rfl ?_)
    unfold wpY_source
    exact yw_lab0 (Or.inr h) (br_f (by decide) ⟨rfl, zz_in F⟩)
  have hl16 : l < 16 := by omega
  have hz := Nat.le_trans (sr_sz hs hl16) hL
  have ecl : a_stmtCount (nI l).toNatClampNeg = nI (sz l) := by rw [nI_clamp (by omega), sr_cnt hs hl16]
  have il : vp_in (nI l) 16 := vp_in_nI hl16 (by omega)
  refine xw_lab1 hl hB (br_f (by decide) (br_c (fun g1 => ?_) (fun g1 => br_c (fun g2 => ?_) (fun g2 => br_c (fun g3 => ?_) (fun g3 => And.intro il (br_c (fun g4 => ?_) (fun g4 => ?_)))))))
  · unfold wpY_source
    exact yw_lab1 hl hB (br_t rfl (br_t g1 ⟨rfl, zz_in F⟩))
  · unfold wpY_source
    exact yw_lab1 hl hB (br_t rfl (br_f g1 (br_t g2 ⟨rfl, zz_in F⟩)))
  · unfold wpY_source
    exact yw_lab1 hl hB (br_t rfl (br_f g1 (br_f g2 (br_t g3 ⟨rfl, zz_in F⟩))))
  · obtain ⟨f, hf, rfl⟩ := nI_of2 (M := 4) (n := 4) (by decide) g1 (ar_lt g2)
    obtain ⟨i, hi, rfl⟩ := nI_of g3
    have g4' := g4
    rw [ecl, nI_leI hi (by omega)] at g4
    have ey : nI l * 35 + nI i * 5 + nI f = nI (l * 35 + i * 5 + f) := by rw [ar_cd, nI_add]
    have yfin : ∀ r, b_code (l * 35 + i * 5 + f) = r → wpY_source (fun r' => r' = r ∧ i_Rel (k + 5) ((nI V), (nI B), (nI L), (nI Q), f_residualMachine, f_directMachine, f_work, f_opMove, f_opOut, f_countCap, (nI C), f_residual, f_found, f_codeSize, a_stmt, a_stmtCount, a_term, a_rom, a_initial, a_marked, a_uses, a_dist, a_ptLabel, a_ptKind, a_ptFirst, a_ptSecond, a_before, a_after, a_exitOf, a_head, a_rankOf, a_byRank, a_codeStart, a_codeEnd, a_codeOp, a_codeDst, a_codeMode, a_codeX, a_codeY, a_values, a_status, a_result, a_forks, a_outCount, a_output, a_place) ((nI V), (nI B), (nI L), (nI Q), (nI C), g_points, g_dyn, g_at, (a_place 1), b_code, a_stmtCount, a_rom, a_initial, a_marked, b_pLabel, b_pVal, a_status, b_result, b_forks, b_outs, a_output, b_val)) ((nI V), (nI B), (nI L), (nI Q), (nI C), g_points, g_dyn, g_at, (a_place 1), b_code, a_stmtCount, a_rom, a_initial, a_marked, b_pLabel, b_pVal, a_status, b_result, b_forks, b_outs, a_output, b_val) (nI l) (nI i) (nI f) := by
      intro r er
      unfold wpY_source
      refine yw_lab1 hl hB (br_t rfl (br_f g1 (br_f g2 (br_f g3 (And.intro il (br_t g4' (And.intro (by rw [ey]; exact vp_in_nI (by omega) (by omega)) ⟨?_, zz_in F⟩)))))))
      rw [ey, nI_clamp (by omega)]; exact er
    refine And.intro il (br_c (fun g5 => ?_) (fun g5 => ?_))
    · rw [ecl, nI_eq (by omega) (by omega)] at g5
      subst g5
      have ex : nI l * 5 + nI f = nI (l * 5 + f) := by rw [ar_m5, nI_add]
      refine And.intro (by rw [ex]; exact vp_in_nI (by omega) (by omega)) (yfin _ ?_)
      rw [ex, nI_clamp (by omega), sr_tm hs f hl16 (by omega)]
    · rw [ecl, nI_eq (by omega) (by omega)] at g5
      have ex : (nI l * 6 + nI i) * 5 + nI f = nI ((l * 6 + i) * 5 + f) := by rw [ar_st, nI_add]
      refine And.intro (by rw [ex]; exact vp_in_nI (by omega) (by omega)) (yfin _ ?_)
      rw [ex, nI_clamp (by omega), sr_st hs f hl16 (by omega) (by omega)]
  · unfold wpY_source
    exact yw_lab1 hl hB (br_t rfl (br_f g1 (br_f g2 (br_f g3 (And.intro il (br_f g4 ⟨rfl, zz_in F⟩))))))
theorem i_vc_cursor {k : Nat} {u : SX} {v : SY} (I : i_Rel k u v) (hk : k + 5 ≤ 2564) : wpX_cursor (fun r => wpY_cursor (fun r' => r' = r ∧ i_Rel (k + 5) u v) v) u := by
  refine zz_el (P := fun u v => wpX_cursor (fun r => wpY_cursor (fun r' => r' = r ∧ i_Rel (k + 5) u v) v) u) I ?_
  intro V B L Q C sz f_residualMachine f_directMachine f_work f_opMove f_opOut f_countCap f_residual f_found f_codeSize a_stmt a_stmtCount a_term a_rom a_initial a_marked a_uses a_dist a_ptLabel a_ptKind a_ptFirst a_ptSecond a_before a_after a_exitOf a_head a_rankOf a_byRank a_codeStart a_codeEnd a_codeOp a_codeDst a_codeMode a_codeX a_codeY a_values a_status a_result a_forks a_outCount a_output a_place g_points g_dyn g_at b_code b_pLabel b_pVal b_result b_forks b_outs b_val F
  obtain ⟨⟨⟨hV2, hV⟩, ⟨hB2, hB⟩, ⟨hL1, hL⟩, ⟨hQ4, hQ⟩, hC⟩, hs, hu, hd, hi, hdr, hr⟩ := id F
  exact And.intro rfl (zz_in F)
theorem i_vc_romAt {k : Nat} {u : SX} {v : SY} (I : i_Rel k u v) (hk : k + 5 ≤ 2564) (v1 : Int32) : wpX_romAt (fun r => wpY_romAt (fun r' => r' = r ∧ i_Rel (k + 5) u v) v v1) u v1 := by
  refine zz_el (P := fun u v => wpX_romAt (fun r => wpY_romAt (fun r' => r' = r ∧ i_Rel (k + 5) u v) v v1) u v1) I ?_
  intro V B L Q C sz f_residualMachine f_directMachine f_work f_opMove f_opOut f_countCap f_residual f_found f_codeSize a_stmt a_stmtCount a_term a_rom a_initial a_marked a_uses a_dist a_ptLabel a_ptKind a_ptFirst a_ptSecond a_before a_after a_exitOf a_head a_rankOf a_byRank a_codeStart a_codeEnd a_codeOp a_codeDst a_codeMode a_codeX a_codeY a_values a_status a_result a_forks a_outCount a_output a_place g_points g_dyn g_at b_code b_pLabel b_pVal b_result b_forks b_outs b_val F
  obtain ⟨⟨⟨hV2, hV⟩, ⟨hB2, hB⟩, ⟨hL1, hL⟩, ⟨hQ4, hQ⟩, hC⟩, hs, hu, hd, hi, hdr, hr⟩ := id F
  exact xw_romAt (yw_romAt ⟨rfl, zz_in F⟩)
theorem i_vc_varAt {k : Nat} {u : SX} {v : SY} (I : i_Rel k u v) (hk : k + 5 ≤ 2564) (v1 : Int32) : wpX_varAt (fun r => wpY_varAt (fun r' => r' = r ∧ i_Rel (k + 5) u v) v v1) u v1 := by
  refine zz_el (P := fun u v => wpX_varAt (fun r => wpY_varAt (fun r' => r' = r ∧ i_Rel (k + 5) u v) v v1) u v1) I ?_
  intro V B L Q C sz f_residualMachine f_directMachine f_work f_opMove f_opOut f_countCap f_residual f_found f_codeSize a_stmt a_stmtCount a_term a_rom a_initial a_marked a_uses a_dist a_ptLabel a_ptKind a_ptFirst a_ptSecond a_before a_after a_exitOf a_head a_rankOf a_byRank a_codeStart a_codeEnd a_codeOp a_codeDst a_codeMode a_codeX a_codeY a_values a_status a_result a_forks a_outCount a_output a_place g_points g_dyn g_at b_code b_pLabel b_pVal b_result b_forks b_outs b_val F
  obtain ⟨⟨⟨hV2, hV⟩, ⟨hB2, hB⟩, ⟨hL1, hL⟩, ⟨hQ4, hQ⟩, hC⟩, hs, hu, hd, hi, hdr, hr⟩ := id F
  unfold wpX_varAt
  rcases pk_ix v1 (n := V) (by omega) with h | h | ⟨l, hl, rfl⟩
  · refine xw_var0 (Or.inl h) (br_t rfl ?_)
    unfold wpY_varAt
    exact yw_var0 (Or.inl h) (br_f (by decide) ⟨rfl, zz_in F⟩)
  · refine xw_var0 (Or.inr h) (br_t rfl ?_)
    unfold wpY_varAt
    exact yw_var0 (Or.inr h) (br_f (by decide) ⟨rfl, zz_in F⟩)
  · have il : vp_in (nI l) 8 := vp_in_nI (by omega) (by omega)
    refine xw_var1 hl hV (br_f (by decide) (And.intro il ?_))
    unfold wpY_varAt
    exact yw_var1 hl hV (br_t rfl (And.intro il ⟨rfl, zz_in F⟩))
theorem i_vc_distance {k : Nat} {u : SX} {v : SY} (I : i_Rel k u v) (hk : k + 5 ≤ 2564) (v1 : Int32) : wpX_distance (fun r => wpY_distance (fun r' => r' = r ∧ i_Rel (k + 5) u v) v v1) u v1 := by
  refine zz_el (P := fun u v => wpX_distance (fun r => wpY_distance (fun r' => r' = r ∧ i_Rel (k + 5) u v) v v1) u v1) I ?_
  intro V B L Q C sz f_residualMachine f_directMachine f_work f_opMove f_opOut f_countCap f_residual f_found f_codeSize a_stmt a_stmtCount a_term a_rom a_initial a_marked a_uses a_dist a_ptLabel a_ptKind a_ptFirst a_ptSecond a_before a_after a_exitOf a_head a_rankOf a_byRank a_codeStart a_codeEnd a_codeOp a_codeDst a_codeMode a_codeX a_codeY a_values a_status a_result a_forks a_outCount a_output a_place g_points g_dyn g_at b_code b_pLabel b_pVal b_result b_forks b_outs b_val F
  obtain ⟨⟨⟨hV2, hV⟩, ⟨hB2, hB⟩, ⟨hL1, hL⟩, ⟨hQ4, hQ⟩, hC⟩, hs, hu, hd, hi, hdr, hr⟩ := id F
  unfold wpX_distance
  rcases pk_ix v1 (n := V) (by omega) with h | h | ⟨l, hl, rfl⟩
  · refine xw_var0 (Or.inl h) (br_t rfl ?_)
    unfold wpY_distance
    exact yw_var0 (Or.inl h) (br_f (by decide) ⟨rfl, zz_in F⟩)
  · refine xw_var0 (Or.inr h) (br_t rfl ?_)
    unfold wpY_distance
    exact yw_var0 (Or.inr h) (br_f (by decide) ⟨rfl, zz_in F⟩)
  · refine xw_var1 hl hV (br_f (by decide) (And.intro (vp_in_nI (by omega) (by omega)) ?_))
    refine yw_dist hs (by omega) hV hL hl (fun r hr => ⟨?_, zz_in F⟩)
    rw [nI_clamp (by omega)]
    exact di_uniq hr (hd l hl)
theorem i_vc_pointCount {k : Nat} {u : SX} {v : SY} (I : i_Rel k u v) (hk : k + 5 ≤ 2564) : wpX_pointCount (fun r => wpY_pointCount (fun r' => r' = r ∧ i_Rel (k + 5) u v) v) u := by
  refine zz_el (P := fun u v => wpX_pointCount (fun r => wpY_pointCount (fun r' => r' = r ∧ i_Rel (k + 5) u v) v) u) I ?_
  intro V B L Q C sz f_residualMachine f_directMachine f_work f_opMove f_opOut f_countCap f_residual f_found f_codeSize a_stmt a_stmtCount a_term a_rom a_initial a_marked a_uses a_dist a_ptLabel a_ptKind a_ptFirst a_ptSecond a_before a_after a_exitOf a_head a_rankOf a_byRank a_codeStart a_codeEnd a_codeOp a_codeDst a_codeMode a_codeX a_codeY a_values a_status a_result a_forks a_outCount a_output a_place g_points g_dyn g_at b_code b_pLabel b_pVal b_result b_forks b_outs b_val F
  obtain ⟨⟨⟨hV2, hV⟩, ⟨hB2, hB⟩, ⟨hL1, hL⟩, ⟨hQ4, hQ⟩, hC⟩, hs, hu, hd, hi, hdr, hr⟩ := id F
  rcases hr with ⟨h1, h2, _⟩ | ⟨h1, n, h2, h3, _⟩
  · exact br_t h1 (And.intro h2 (zz_in F))
  · exact br_f (by rw [h1]; decide) (And.intro (h3.trans h2.symm) (zz_in F))
theorem i_vc_outAt {k : Nat} {u : SX} {v : SY} (I : i_Rel k u v) (hk : k + 5 ≤ 2564) (v1 : Int32) (v2 : Int32) : wpX_outAt (fun r => wpY_outAt (fun r' => r' = r ∧ i_Rel (k + 5) u v) v v1 v2) u v1 v2 := by
  refine zz_el (P := fun u v => wpX_outAt (fun r => wpY_outAt (fun r' => r' = r ∧ i_Rel (k + 5) u v) v v1 v2) u v1 v2) I ?_
  intro V B L Q C sz f_residualMachine f_directMachine f_work f_opMove f_opOut f_countCap f_residual f_found f_codeSize a_stmt a_stmtCount a_term a_rom a_initial a_marked a_uses a_dist a_ptLabel a_ptKind a_ptFirst a_ptSecond a_before a_after a_exitOf a_head a_rankOf a_byRank a_codeStart a_codeEnd a_codeOp a_codeDst a_codeMode a_codeX a_codeY a_values a_status a_result a_forks a_outCount a_output a_place g_points g_dyn g_at b_code b_pLabel b_pVal b_result b_forks b_outs b_val F
  obtain ⟨⟨⟨hV2, hV⟩, ⟨hB2, hB⟩, ⟨hL1, hL⟩, ⟨hQ4, hQ⟩, hC⟩, hs, hu, hd, hi, hdr, hr⟩ := id F
  unfold wpX_outAt
  by_cases hm : v1 = 0 ∨ v1 = 1
  · have key : ∃ m, m < 2 ∧ v1 = nI m := by rcases hm with h | h; exact ⟨0, by omega, h⟩; exact ⟨1, by omega, h⟩
    obtain ⟨m, hm2, rfl⟩ := key
    have im : vp_in (nI m) 2 := vp_in_nI hm2 (by omega)
    have em : (nI m).toNatClampNeg = m := nI_clamp (by omega)
    have hx : ∀ post : Int32 → Prop, post 1 → wpX_isMachine post ((nI V), (nI B), (nI L), (nI Q), f_residualMachine, f_directMachine, f_work, f_opMove, f_opOut, f_countCap, (nI C), f_residual, f_found, f_codeSize, a_stmt, a_stmtCount, a_term, a_rom, a_initial, a_marked, a_uses, a_dist, a_ptLabel, a_ptKind, a_ptFirst, a_ptSecond, a_before, a_after, a_exitOf, a_head, a_rankOf, a_byRank, a_codeStart, a_codeEnd, a_codeOp, a_codeDst, a_codeMode, a_codeX, a_codeY, a_values, a_status, a_result, a_forks, a_outCount, a_output, a_place) (nI m) := fun post K => br_c (fun _ => K) (fun h0 => br_t (hm.resolve_left h0) K)
    have ym0 : ¬ nI m < 0 := nI_pos (by omega)
    have ym1 : ¬ 1 < nI m := nI_nlt (a := 1) (b := m) (by omega) (by omega)
    -- the two counts
    have hcount : (a_status m = 0 ∧ a_outCount m = 0) ∨ (¬ a_status m = 0 ∧ a_outCount m = b_outs m) := by
      rcases (show m = 0 ∨ m = 1 by omega) with e | e <;> subst e
      · rcases hr with ⟨_, _, h3, h4⟩ | ⟨_, n, _, _, _, _, _, hma⟩
        · exact Or.inl ⟨h3, h4⟩
        · rcases hma with ⟨h3, h4⟩ | ⟨h3, q, _, _, _, _, _, h4, _⟩
          · exact Or.inl ⟨h3, h4⟩
          · refine Or.inr ⟨?_, h4⟩
            rcases h3 with h | h | h | h | h <;> rw [h] <;> decide
      · by_cases h0 : a_status 1 = 0
        · exact Or.inl ⟨h0, hdr.2.2.2.2.2 h0⟩
        · exact Or.inr ⟨h0, hdr.2.2.2.1⟩
    refine hx _ (br_f (by decide) (br_c (fun g1 => ?_) (fun g1 => br_c (fun g2 => ?_) (fun g2 => And.intro im (br_c (fun g3 => ?_) (fun g3 => ?_))))))
    · exact br_f ym0 (br_f ym1 (br_t g1 ⟨rfl, zz_in F⟩))
    · exact br_f ym0 (br_f ym1 (br_f g1 (br_f (ar_nlt g2) ⟨rfl, zz_in F⟩)))
    · rw [em] at g3
      obtain ⟨j, hj, rfl⟩ := nI_of g1
      have g2' := ar_le g2
      have hj32 : j < 32 := (nI_ltI (b := 32) hj (by omega)).mp g2'
      have ii : vp_in (nI m * 32 + nI j) 64 := by rw [ar_m32]; exact vp_in_nI (by omega) (by omega)
      rcases hcount with ⟨c1, c2⟩ | ⟨c1, c2⟩
      · rw [c2] at g3; exact absurd g3 g1
      · refine And.intro ii (br_f ym0 (br_f ym1 (br_f g1 (br_t g2' (And.intro im (br_f (by rw [em]; exact c1) (And.intro im (br_t (by rw [em, ← c2]; exact g3) (And.intro ii ⟨rfl, zz_in F⟩)))))))))
    · rw [em] at g3
      have g2' := ar_le g2
      rcases hcount with ⟨c1, c2⟩ | ⟨c1, c2⟩
      · exact br_f ym0 (br_f ym1 (br_f g1 (br_t g2' (And.intro im (br_t (by rw [em]; exact c1) ⟨rfl, zz_in F⟩)))))
      · exact br_f ym0 (br_f ym1 (br_f g1 (br_t g2' (And.intro im (br_f (by rw [em]; exact c1) (And.intro im (br_f (by rw [em, ← c2]; exact g3) ⟨rfl, zz_in F⟩)))))))
  · refine br_f (fun z => hm (Or.inl z)) (br_f (fun z => hm (Or.inr z)) (br_t rfl ?_))
    by_cases g : v1 < 0
    · exact br_t g ⟨rfl, zz_in F⟩
    · refine br_f g (br_t ?_ ⟨rfl, zz_in F⟩)
      obtain ⟨j, hj, rfl⟩ := nI_of g
      refine nI_lt (a := 1) ?_ hj
      apply Classical.byContradiction
      intro z
      rcases (show j = 0 ∨ j = 1 by omega) with e | e <;> subst e
      · exact hm (Or.inl rfl)
      · exact hm (Or.inr rfl)
end
section
theorem ar_mach {x : Int32} (hm : ¬ (x = 0 ∨ x = 1)) (g : ¬ x < 0) : 1 < x := by
  obtain ⟨j, hj, rfl⟩ := nI_of g
  refine nI_lt (a := 1) ?_ hj
  apply Classical.byContradiction
  intro z
  rcases (show j = 0 ∨ j = 1 by omega) with e | e <;> subst e
  · exact hm (Or.inl rfl)
  · exact hm (Or.inr rfl)
theorem i_vc_report {k : Nat} {u : SX} {v : SY} (I : i_Rel k u v) (hk : k + 5 ≤ 2564) (v1 : Int32) (v2 : Int32) : wpX_report (fun r => wpY_report (fun r' => r' = r ∧ i_Rel (k + 5) u v) v v1 v2) u v1 v2 := by
  refine zz_el (P := fun u v => wpX_report (fun r => wpY_report (fun r' => r' = r ∧ i_Rel (k + 5) u v) v v1 v2) u v1 v2) I ?_
  intro V B L Q C sz f_residualMachine f_directMachine f_work f_opMove f_opOut f_countCap f_residual f_found f_codeSize a_stmt a_stmtCount a_term a_rom a_initial a_marked a_uses a_dist a_ptLabel a_ptKind a_ptFirst a_ptSecond a_before a_after a_exitOf a_head a_rankOf a_byRank a_codeStart a_codeEnd a_codeOp a_codeDst a_codeMode a_codeX a_codeY a_values a_status a_result a_forks a_outCount a_output a_place g_points g_dyn g_at b_code b_pLabel b_pVal b_result b_forks b_outs b_val F
  obtain ⟨⟨⟨hV2, hV⟩, ⟨hB2, hB⟩, ⟨hL1, hL⟩, ⟨hQ4, hQ⟩, hC⟩, hs, hu, hd, hi, hdr, hr⟩ := id F
  unfold wpX_report
  by_cases hm : v1 = 0 ∨ v1 = 1
  · have key : ∃ m, m < 2 ∧ v1 = nI m := by rcases hm with h | h; exact ⟨0, by omega, h⟩; exact ⟨1, by omega, h⟩
    obtain ⟨m, hm2, rfl⟩ := key
    have im : vp_in (nI m) 2 := vp_in_nI hm2 (by omega)
    have em : (nI m).toNatClampNeg = m := nI_clamp (by omega)
    have hx : ∀ post : Int32 → Prop, post 1 → wpX_isMachine post ((nI V), (nI B), (nI L), (nI Q), f_residualMachine, f_directMachine, f_work, f_opMove, f_opOut, f_countCap, (nI C), f_residual, f_found, f_codeSize, a_stmt, a_stmtCount, a_term, a_rom, a_initial, a_marked, a_uses, a_dist, a_ptLabel, a_ptKind, a_ptFirst, a_ptSecond, a_before, a_after, a_exitOf, a_head, a_rankOf, a_byRank, a_codeStart, a_codeEnd, a_codeOp, a_codeDst, a_codeMode, a_codeX, a_codeY, a_values, a_status, a_result, a_forks, a_outCount, a_output, a_place) (nI m) := fun post K => br_c (fun _ => K) (fun h0 => br_t (hm.resolve_left h0) K)
    have ym0 : ¬ nI m < 0 := nI_pos (by omega)
    have ym1 : ¬ 1 < nI m := nI_nlt (a := 1) (b := m) (by omega) (by omega)
    refine hx _ (br_f (by decide) (br_c (fun g1 => ?_) (fun g1 => br_c (fun g2 => And.intro im ?_) (fun g2 => ?_))))
    · exact br_f ym0 (br_f ym1 (br_t g1 ⟨rfl, zz_in F⟩))
    · obtain ⟨f, hf, rfl⟩ := nI_of2 (M := 5) (n := 5) (by decide) g1 g2
      by_cases h0 : a_status m = 0
      · refine br_t (by rw [em]; exact h0) (br_c (fun g5 => ?_) (fun g5 => ?_))
        · exact br_f ym0 (br_f ym1 (br_f g1 (br_t g2 (And.intro im (br_t (by rw [em]; exact h0) (br_t g5 ⟨rfl, zz_in F⟩))))))
        · exact br_f ym0 (br_f ym1 (br_f g1 (br_t g2 (And.intro im (br_t (by rw [em]; exact h0) (br_f g5 ⟨rfl, zz_in F⟩))))))
      · have hmach : a_result m = b_result m ∧ a_forks m = b_forks m ∧ a_outCount m = b_outs m ∧ (m = 0 → ∃ n q, n ≤ 32 ∧ q < n ∧ a_place 0 = nI q ∧ g_at = nI q ∧ g_points = nI n ∧ a_ptLabel q = b_pLabel q ∧ a_rankOf q = nI (pu_rk V n b_pLabel b_pVal q) ∧ pu_pt V B n (pu_D a_dist) b_pLabel b_pVal) := by
          rcases (show m = 0 ∨ m = 1 by omega) with e | e <;> subst e
          · rcases hr with ⟨_, _, h3, h4⟩ | ⟨_, n, en, eg, hres, _, _, hma⟩
            · exact absurd h3 h0
            · rcases hma with ⟨h3, h4⟩ | ⟨h3, q, hq, p1, p2, p3, p4, p5, _⟩
              · exact absurd h3 h0
              · exact ⟨p3, p4, p5, fun _ => ⟨n, q, hres.1.2, hq, p1, p2, eg, hres.2.1.2.1 q hq, hres.2.2.2.1 q hq, hres.2.1.1⟩⟩
          · exact ⟨hdr.2.1, hdr.2.2.1, hdr.2.2.2.1, fun z => absurd z (by decide)⟩
        obtain ⟨e1, e2, e3, e4⟩ := hmach
        have h0' : ¬ a_status (nI m).toNatClampNeg = 0 := by rw [em]; exact h0
        refine br_f h0' (br_f g1 ?_)
        rcases (show f = 0 ∨ f = 1 ∨ f = 2 ∨ f = 3 ∨ f = 4 ∨ f = 5 by omega) with e | e | e | e | e | e <;> subst e
        · refine br_f (by decide) (br_t rfl (And.intro im ?_))
          exact br_f ym0 (br_f ym1 (br_f g1 (br_t g2 (And.intro im (br_f h0' (br_t rfl (And.intro im ⟨rfl, zz_in F⟩)))))))
        · refine br_f (by decide) (br_f (by decide) (br_t rfl (And.intro im ?_)))
          exact br_f ym0 (br_f ym1 (br_f g1 (br_t g2 (And.intro im (br_f h0' (br_f (by decide) (br_t rfl (And.intro im ⟨by rw [em, e1], zz_in F⟩))))))))
        · refine br_f (by decide) (br_f (by decide) (br_f (by decide) (br_t rfl (And.intro im ?_))))
          exact br_f ym0 (br_f ym1 (br_f g1 (br_t g2 (And.intro im (br_f h0' (br_f (by decide) (br_f (by decide) (br_t rfl (And.intro im ⟨by rw [em, e2], zz_in F⟩)))))))))
        · refine br_f (by decide) (br_f (by decide) (br_f (by decide) (br_f (by decide) (br_t rfl (And.intro im ?_)))))
          exact br_f ym0 (br_f ym1 (br_f g1 (br_t g2 (And.intro im (br_f h0' (br_f (by decide) (br_f (by decide) (br_f (by decide) (br_t rfl (And.intro im ⟨by rw [em, e3], zz_in F⟩))))))))))
        · refine br_f (by decide) (br_f (by decide) (br_f (by decide) (br_f (by decide) (br_f (by decide) (br_t rfl ?_)))))
          rcases (show m = 0 ∨ m = 1 by omega) with e | e <;> subst e
          · obtain ⟨n, q, hn, hq, p1, p2, eg, p3, p4, p5⟩ := e4 rfl
            have ep : a_place (nI 0).toNatClampNeg = nI q := by rw [em, p1]
            have eq : (nI q).toNatClampNeg = q := nI_clamp (by omega)
            refine br_t rfl (And.intro im (And.intro (by rw [ep]; exact vp_in_nI (by omega) (by omega)) ?_))
            refine br_f ym0 (br_f ym1 (br_f g1 (br_t g2 (And.intro im (br_f h0' (br_f (by decide) (br_f (by decide) (br_f (by decide) (br_f (by decide) (br_t rfl (br_t rfl (And.intro (by rw [p2]; exact vp_in_nI (by omega) (by omega)) ⟨?_, zz_in F⟩))))))))))))
            rw [ep, p2, eq, p3]
          · refine br_f (by decide) (And.intro im ?_)
            exact br_f ym0 (br_f ym1 (br_f g1 (br_t g2 (And.intro im (br_f h0' (br_f (by decide) (br_f (by decide) (br_f (by decide) (br_f (by decide) (br_t rfl (br_f (by decide) ⟨by rw [em], zz_in F⟩)))))))))))
        · refine br_t (by decide) ?_
          rcases (show m = 0 ∨ m = 1 by omega) with e | e <;> subst e
          · obtain ⟨n, q, hn, hq, p1, p2, eg, p3, p4, p5⟩ := e4 rfl
            have ep : a_place (nI 0).toNatClampNeg = nI q := by rw [em, p1]
            have eq : (nI q).toNatClampNeg = q := nI_clamp (by omega)
            refine br_t rfl (And.intro im (And.intro (by rw [ep]; exact vp_in_nI (by omega) (by omega)) ?_))
            rw [ep, eq, p4]
            refine br_f ym0 (br_f ym1 (br_f g1 (br_t g2 (And.intro im (br_f h0' (br_f (by decide) (br_f (by decide) (br_f (by decide) (br_f (by decide) (br_f (by decide) (br_t rfl ?_)))))))))))
            have Z := zz_in (k := k + 5) (f_residualMachine := f_residualMachine) (f_directMachine := f_directMachine) (f_work := f_work) (f_opMove := f_opMove) (f_opOut := f_opOut) (f_countCap := f_countCap) (f_codeSize := f_codeSize) F
            subst p2 eg
            exact yw_rank hn hV hq p5 ⟨rfl, Z⟩
          · refine br_f (by decide) ?_
            exact br_f ym0 (br_f ym1 (br_f g1 (br_t g2 (And.intro im (br_f h0' (br_f (by decide) (br_f (by decide) (br_f (by decide) (br_f (by decide) (br_f (by decide) (br_f (by decide) ⟨rfl, zz_in F⟩)))))))))))
    · exact br_f ym0 (br_f ym1 (br_f g1 (br_f g2 ⟨rfl, zz_in F⟩)))
  · refine br_f (fun z => hm (Or.inl z)) (br_f (fun z => hm (Or.inr z)) (br_t rfl ?_))
    by_cases g : v1 < 0
    · exact br_t g ⟨rfl, zz_in F⟩
    · exact br_f g (br_t (ar_mach hm g) ⟨rfl, zz_in F⟩)
theorem i_vc_peek {k : Nat} {u : SX} {v : SY} (I : i_Rel k u v) (hk : k + 5 ≤ 2564) (v1 : Int32) (v2 : Int32) : wpX_peek (fun r => wpY_peek (fun r' => r' = r ∧ i_Rel (k + 5) u v) v v1 v2) u v1 v2 := by
  refine zz_el (P := fun u v => wpX_peek (fun r => wpY_peek (fun r' => r' = r ∧ i_Rel (k + 5) u v) v v1 v2) u v1 v2) I ?_
  intro V B L Q C sz f_residualMachine f_directMachine f_work f_opMove f_opOut f_countCap f_residual f_found f_codeSize a_stmt a_stmtCount a_term a_rom a_initial a_marked a_uses a_dist a_ptLabel a_ptKind a_ptFirst a_ptSecond a_before a_after a_exitOf a_head a_rankOf a_byRank a_codeStart a_codeEnd a_codeOp a_codeDst a_codeMode a_codeX a_codeY a_values a_status a_result a_forks a_outCount a_output a_place g_points g_dyn g_at b_code b_pLabel b_pVal b_result b_forks b_outs b_val F
  obtain ⟨⟨⟨hV2, hV⟩, ⟨hB2, hB⟩, ⟨hL1, hL⟩, ⟨hQ4, hQ⟩, hC⟩, hs, hu, hd, hi, hdr, hr⟩ := id F
  unfold wpX_peek
  by_cases hm : v1 = 0 ∨ v1 = 1
  · have key : ∃ m, m < 2 ∧ v1 = nI m := by rcases hm with h | h; exact ⟨0, by omega, h⟩; exact ⟨1, by omega, h⟩
    obtain ⟨m, hm2, rfl⟩ := key
    have im : vp_in (nI m) 2 := vp_in_nI hm2 (by omega)
    have em : (nI m).toNatClampNeg = m := nI_clamp (by omega)
    have hx : ∀ post : Int32 → Prop, post 1 → wpX_isMachine post ((nI V), (nI B), (nI L), (nI Q), f_residualMachine, f_directMachine, f_work, f_opMove, f_opOut, f_countCap, (nI C), f_residual, f_found, f_codeSize, a_stmt, a_stmtCount, a_term, a_rom, a_initial, a_marked, a_uses, a_dist, a_ptLabel, a_ptKind, a_ptFirst, a_ptSecond, a_before, a_after, a_exitOf, a_head, a_rankOf, a_byRank, a_codeStart, a_codeEnd, a_codeOp, a_codeDst, a_codeMode, a_codeX, a_codeY, a_values, a_status, a_result, a_forks, a_outCount, a_output, a_place) (nI m) := fun post K => br_c (fun _ => K) (fun h0 => br_t (hm.resolve_left h0) K)
    have ym0 : ¬ nI m < 0 := nI_pos (by omega)
    have ym1 : ¬ 1 < nI m := nI_nlt (a := 1) (b := m) (by omega) (by omega)
    refine hx _ (br_f (by decide) ?_)
    rcases pk_ix v2 (n := V) (by omega) with h | h | ⟨j, hj, rfl⟩
    · exact xw_var0 (Or.inl h) (br_t rfl (br_f ym0 (br_f ym1 (yw_var0 (Or.inl h) (br_f (by decide) ⟨rfl, zz_in F⟩)))))
    · exact xw_var0 (Or.inr h) (br_t rfl (br_f ym0 (br_f ym1 (yw_var0 (Or.inr h) (br_f (by decide) ⟨rfl, zz_in F⟩)))))
    have ej : (nI j).toNatClampNeg = j := nI_clamp (by omega)
    refine xw_var1 hj hV (br_f (by decide) (And.intro im ?_))
    by_cases h0 : a_status m = 0
    · exact br_t (by rw [em]; exact h0) (br_f ym0 (br_f ym1 (yw_var1 hj hV (br_t rfl (And.intro im (br_t (by rw [em]; exact h0) ⟨rfl, zz_in F⟩))))))
    have h0' : ¬ a_status (nI m).toNatClampNeg = 0 := by rw [em]; exact h0
    have yfin : ∀ r, b_val (m * 8 + j) = r → wpY_peek (fun r' => r' = r ∧ i_Rel (k + 5) ((nI V), (nI B), (nI L), (nI Q), f_residualMachine, f_directMachine, f_work, f_opMove, f_opOut, f_countCap, (nI C), f_residual, f_found, f_codeSize, a_stmt, a_stmtCount, a_term, a_rom, a_initial, a_marked, a_uses, a_dist, a_ptLabel, a_ptKind, a_ptFirst, a_ptSecond, a_before, a_after, a_exitOf, a_head, a_rankOf, a_byRank, a_codeStart, a_codeEnd, a_codeOp, a_codeDst, a_codeMode, a_codeX, a_codeY, a_values, a_status, a_result, a_forks, a_outCount, a_output, a_place) ((nI V), (nI B), (nI L), (nI Q), (nI C), g_points, g_dyn, g_at, (a_place 1), b_code, a_stmtCount, a_rom, a_initial, a_marked, b_pLabel, b_pVal, a_status, b_result, b_forks, b_outs, a_output, b_val)) ((nI V), (nI B), (nI L), (nI Q), (nI C), g_points, g_dyn, g_at, (a_place 1), b_code, a_stmtCount, a_rom, a_initial, a_marked, b_pLabel, b_pVal, a_status, b_result, b_forks, b_outs, a_output, b_val) (nI m) (nI j) := by
      intro r er
      refine br_f ym0 (br_f ym1 (yw_var1 hj hV (br_t rfl (And.intro im (br_f h0' (And.intro (by rw [ar_m8]; exact vp_in_nI (by omega) (by omega)) ⟨?_, zz_in F⟩))))))
      rw [ar_m8, nI_clamp (by omega)]; exact er
    refine br_f h0' ?_
    rcases (show m = 0 ∨ m = 1 by omega) with e | e <;> subst e
    · rcases hr with ⟨_, _, h3, h4⟩ | ⟨_, n, en, eg, hres, _, _, hma⟩
      · exact absurd h3 h0
      rcases hma with ⟨h3, h4⟩ | ⟨h3, q, hq, p1, p2, p3, p4, p5, p6, p7, _⟩
      · exact absurd h3 h0
      have hn := hres.1.2
      refine br_f (by decide) (And.intro (vp_in_nI (by omega) (by omega)) (br_c (fun g => ?_) (fun g => ?_)))
      · rw [ej] at g
        have hDf : pu_D a_dist j = false := decide_eq_false (ar_nle g)
        have p7 := p7 j hj hDf
        have hbf := hres.2.1.2.2 q j hq hj
        have ix : vp_in (nI (q * 8 + j)) 256 := vp_in_nI (by omega) (by omega)
        have ex : (nI (q * 8 + j)).toNatClampNeg = q * 8 + j := nI_clamp (by omega)
        refine And.intro im (nm_r (e' := nI (q * 8 + j)) (by rw [em, p1, ar_m8]) (And.intro im (br_c (fun g3 => ?_) (fun g3 => And.intro im (br_c (fun g4 => ?_) (fun g4 => ?_))))))
        · rw [em] at g3
          rw [if_pos (Or.inl g3)] at p7
          exact br_f (by decide) (And.intro ix (yfin _ (by rw [ex, Nat.zero_mul, Nat.zero_add]; exact p7)))
        · rw [em] at g4
          rw [if_pos (Or.inr g4)] at p7
          exact br_f (by decide) (And.intro ix (yfin _ (by rw [ex, Nat.zero_mul, Nat.zero_add]; exact p7)))
        · rw [em] at g3 g4
          rw [if_neg (fun z => z.elim g3 g4)] at p7
          exact br_t rfl (And.intro ix (yfin _ (by rw [ex, Nat.zero_mul, Nat.zero_add, hbf]; exact p7)))
      · rw [ej] at g
        refine And.intro (vp_in_nI (by omega) (by omega)) (yfin _ ?_)
        rw [ej, Nat.zero_mul, Nat.zero_add]
        exact (p6 j hj (decide_eq_true (ar_lt g))).symm
    · refine br_t rfl (And.intro (by rw [ar_8]; exact vp_in_nI (by omega) (by omega)) (yfin _ ?_))
      rw [ar_8, nI_clamp (by omega), Nat.one_mul]
      exact (hdr.1 j hj).symm
  · refine br_f (fun z => hm (Or.inl z)) (br_f (fun z => hm (Or.inr z)) (br_t rfl ?_))
    by_cases g : v1 < 0
    · exact br_t g ⟨rfl, zz_in F⟩
    · exact br_f g (br_t (ar_mach hm g) ⟨rfl, zz_in F⟩)
theorem i_vc_pointVar {k : Nat} {u : SX} {v : SY} (I : i_Rel k u v) (hk : k + 5 ≤ 2564) (v1 : Int32) (v2 : Int32) : wpX_pointVar (fun r => wpY_pointVar (fun r' => r' = r ∧ i_Rel (k + 5) u v) v v1 v2) u v1 v2 := by
  refine zz_el (P := fun u v => wpX_pointVar (fun r => wpY_pointVar (fun r' => r' = r ∧ i_Rel (k + 5) u v) v v1 v2) u v1 v2) I ?_
  intro V B L Q C sz f_residualMachine f_directMachine f_work f_opMove f_opOut f_countCap f_residual f_found f_codeSize a_stmt a_stmtCount a_term a_rom a_initial a_marked a_uses a_dist a_ptLabel a_ptKind a_ptFirst a_ptSecond a_before a_after a_exitOf a_head a_rankOf a_byRank a_codeStart a_codeEnd a_codeOp a_codeDst a_codeMode a_codeX a_codeY a_values a_status a_result a_forks a_outCount a_output a_place g_points g_dyn g_at b_code b_pLabel b_pVal b_result b_forks b_outs b_val F
  obtain ⟨⟨⟨hV2, hV⟩, ⟨hB2, hB⟩, ⟨hL1, hL⟩, ⟨hQ4, hQ⟩, hC⟩, hs, hu, hd, hi, hdr, hr⟩ := id F
  unfold wpX_pointVar
  have Z := zz_in (k := k + 5) (f_residualMachine := f_residualMachine) (f_directMachine := f_directMachine) (f_work := f_work) (f_opMove := f_opMove) (f_opOut := f_opOut) (f_countCap := f_countCap) (f_codeSize := f_codeSize) F
  rcases hr with ⟨r0, g0, _⟩ | ⟨r1, n, rfl, rfl, hres, _, _, _⟩
  · refine br_t r0 (br_t rfl ?_)
    by_cases g : v1 < 0
    · exact br_t g ⟨rfl, Z⟩
    · exact br_f g (br_t (by rw [g0]; exact ar_lt g) ⟨rfl, Z⟩)
  have hn := hres.1.2
  have hr1 : ¬ f_residual = 0 := by rw [r1]; decide
  rcases pk_ix v1 (n := n) (by omega) with h | h | ⟨r, hrn, rfl⟩
  · exact br_f hr1 (br_t h (br_t rfl (br_t h ⟨rfl, Z⟩)))
  · have h0 : ¬ v1 < 0 := ar_nlt (Int32.le_trans (nI_pos' (by omega)) h)
    exact br_f hr1 (br_f h0 (br_t h (br_t rfl (br_f h0 (br_t h ⟨rfl, Z⟩)))))
  have h0 : ¬ nI r < 0 := nI_pos (by omega)
  have h1 : ¬ nI n ≤ nI r := nI_ge hrn (by omega)
  refine br_f hr1 (br_f h0 (br_f h1 (br_f (by decide) ?_)))
  rcases pk_ix v2 (n := V) (by omega) with h | h | ⟨j, hj, rfl⟩
  · exact xw_var0 (Or.inl h) (br_t rfl (br_f h0 (br_f h1 (yw_var0 (Or.inl h) (br_f (by decide) ⟨rfl, Z⟩)))))
  · exact xw_var0 (Or.inr h) (br_t rfl (br_f h0 (br_f h1 (yw_var0 (Or.inr h) (br_f (by decide) ⟨rfl, Z⟩)))))
  have ej : (nI j).toNatClampNeg = j := nI_clamp (by omega)
  have hy : ∀ x : Int32, (∀ p, p < n → pu_rk V n b_pLabel b_pVal p = r → b_pVal (p * 8 + j) = x) → wpY_pointVar (fun r' => r' = x ∧ i_Rel (k + 5) ((nI V), (nI B), (nI L), (nI Q), f_residualMachine, f_directMachine, f_work, f_opMove, f_opOut, f_countCap, (nI C), f_residual, (nI n), f_codeSize, a_stmt, a_stmtCount, a_term, a_rom, a_initial, a_marked, a_uses, a_dist, a_ptLabel, a_ptKind, a_ptFirst, a_ptSecond, a_before, a_after, a_exitOf, a_head, a_rankOf, a_byRank, a_codeStart, a_codeEnd, a_codeOp, a_codeDst, a_codeMode, a_codeX, a_codeY, a_values, a_status, a_result, a_forks, a_outCount, a_output, a_place) ((nI V), (nI B), (nI L), (nI Q), (nI C), (nI n), g_dyn, g_at, (a_place 1), b_code, a_stmtCount, a_rom, a_initial, a_marked, b_pLabel, b_pVal, a_status, b_result, b_forks, b_outs, a_output, b_val)) ((nI V), (nI B), (nI L), (nI Q), (nI C), (nI n), g_dyn, g_at, (a_place 1), b_code, a_stmtCount, a_rom, a_initial, a_marked, b_pLabel, b_pVal, a_status, b_result, b_forks, b_outs, a_output, b_val) (nI r) (nI j) := by
    intro x hx
    refine br_f h0 (br_f h1 (yw_var1 hj hV (br_t rfl (yw_ranked hn hV hrn hres.2.1.1 (fun p hp hrk => And.intro (by rw [ar_m8]; exact vp_in_nI (by omega) (by omega)) ⟨?_, Z⟩)))))
    rw [ar_m8, nI_clamp (by omega)]; exact hx p hp hrk
  refine xw_var1 hj hV (br_f (by decide) (And.intro (vp_in_nI (by omega) (by omega)) (br_c (fun g => ?_) (fun g => ?_))))
  · rw [ej] at g
    obtain ⟨p, hp, hrk⟩ := rk_sur hres.2.1.1.2.2 hrn
    have eb : a_byRank (nI r).toNatClampNeg = nI p := by rw [nI_clamp (by omega), ← hrk]; exact hres.2.2.2.2.1 p hp
    refine And.intro (vp_in_nI (by omega) (by omega)) (And.intro (by rw [eb, ar_m8]; exact vp_in_nI (by omega) (by omega)) (hy _ (fun p' hp' hrk' => ?_)))
    have : p' = p := rk_inj hres.2.1.1.2.2 p' p hp' hp (hrk'.trans hrk.symm)
    rw [eb, ar_m8, nI_clamp (by omega), this]
    exact (hres.2.1.2.2 p j hp hj).symm
  · rw [ej] at g
    exact hy 0 (fun p hp _ => hres.2.1.1.2.1 p j hp (by omega) (Or.inr (decide_eq_true (ar_lt g))))
end
section
theorem lev_congr {V : Nat} {mk : Nat → Int32} {dep dep' : Nat → Nat → Prop} (h : ∀ v u, v < V → u < V → (dep v u ↔ dep' v u)) : ∀ k v, pu_lev V mk dep k v ↔ pu_lev V mk dep' k v := by
  intro k
  induction k with
  | zero => intro v; exact Iff.rfl
  | succ k ih =>
    intro v
    constructor
    · rintro (a | ⟨hv, u, hu, hd, hl⟩)
      · exact Or.inl ((ih v).mp a)
      · exact Or.inr ⟨hv, u, hu, (h v u hv hu).mp hd, (ih u).mp hl⟩
    · rintro (a | ⟨hv, u, hu, hd, hl⟩)
      · exact Or.inl ((ih v).mpr a)
      · exact Or.inr ⟨hv, u, hu, (h v u hv hu).mpr hd, (ih u).mpr hl⟩
theorem di_congr {V : Nat} {mk : Nat → Int32} {dep dep' : Nat → Nat → Prop} (h : ∀ v u, v < V → u < V → (dep v u ↔ dep' v u)) {v : Nat} {d : Int32} (hd : pu_dist V mk dep v d) : pu_dist V mk dep' v d := by
  rcases hd with ⟨k, hk, a, b, e⟩ | ⟨a, e⟩
  · exact Or.inl ⟨k, hk, (lev_congr h k v).mp a, fun j hj z => b j hj ((lev_congr h j v).mpr z), e⟩
  · exact Or.inr ⟨fun k z => a k ((lev_congr h k v).mpr z), e⟩
theorem us_pd {V : Nat} {cd uses : Nat → Int32} {sz : Nat → Nat} (hz : ∀ l, l < 16 → sz l ≤ 6) (h : ∀ v u, v < V → u < V → uses (v * 8 + u) = nI (pu_us cd sz v u 16)) : ∀ v u, v < V → u < V → (0 < uses (v * 8 + u) ↔ pu_dep sz cd v u) := by
  intro v u hv hu
  have hb := us_le (cd := cd) (v := v) (u := u) 16 hz
  rw [h v u hv hu, ← us_dep, ← nI_0, nI_ltI (by omega) (by omega)]
section
variable {f_residualMachine f_directMachine f_work f_opMove f_opOut f_countCap f_residual f_found f_codeSize : Int32} {a_stmt a_stmtCount a_term a_rom a_initial a_marked a_uses a_dist a_ptLabel a_ptKind a_ptFirst a_ptSecond a_before a_after a_exitOf a_head a_rankOf a_byRank a_codeStart a_codeEnd a_codeOp a_codeDst a_codeMode a_codeX a_codeY a_values a_status a_result a_forks a_outCount a_output a_place : Nat → Int32}
/-- the relation behind a drop -/
theorem F_drop {V B L Q C : Nat} {sz : Nat → Nat} {fd g_dyn g_at : Int32} {b_code b_pLabel b_pVal b_result b_forks b_outs b_val rs fk pc : Nat → Int32}
    (hc : (2 ≤ V ∧ V ≤ 8) ∧ (2 ≤ B ∧ B ≤ 16) ∧ (1 ≤ L ∧ L ≤ 6) ∧ (4 ≤ Q ∧ Q ≤ 32) ∧ C < B) (hs : pu_src V B L sz b_code a_stmt a_stmtCount a_term)
    (hu : ∀ v u, v < V → u < V → a_uses (v * 8 + u) = nI (pu_us b_code sz v u 16)) (hd : ∀ v, v < V → pu_dist V a_marked (pu_dep sz b_code) v (a_dist v)) (hi : ∀ v, V ≤ v → v < 8 → a_initial v = 0)
    (hdr : pu_dr V (a_status 1) a_values a_result a_forks a_outCount b_val b_result b_forks b_outs) (e1 : rs 1 = a_result 1) (e2 : fk 1 = a_forks 1) :
    pu_F V B L Q C sz 0 fd a_stmt a_stmtCount a_term a_rom a_initial a_marked a_uses a_dist a_ptLabel a_ptKind a_ptFirst a_ptSecond a_before a_after a_exitOf a_head a_rankOf a_byRank a_codeStart a_codeEnd a_codeOp a_codeDst a_codeMode a_codeX a_codeY a_values (upd a_status 0 0) rs fk (upd a_outCount 0 0) a_output pc 0 g_dyn g_at b_code b_pLabel b_pVal b_result b_forks b_outs b_val := by
  have o1 : upd a_outCount 0 0 1 = a_outCount 1 := pk_un (by decide)
  have s1 : upd a_status 0 0 1 = a_status 1 := pk_un (by decide)
  refine ⟨hc, hs, hu, hd, hi, ⟨hdr.1, e1.trans hdr.2.1, e2.trans hdr.2.2.1, o1.trans hdr.2.2.2.1, ?_, ?_⟩, Or.inl ⟨rfl, rfl, pk_us, pk_us⟩⟩
  · rw [o1]; exact hdr.2.2.2.2.1
  · rw [s1, o1]; exact hdr.2.2.2.2.2
theorem F_hd {V B L Q C : Nat} {sz : Nat → Nat} {g_points g_dyn g_at : Int32} {b_code b_pLabel b_pVal b_result b_forks b_outs b_val : Nat → Int32}
    (F : pu_F V B L Q C sz f_residual f_found a_stmt a_stmtCount a_term a_rom a_initial a_marked a_uses a_dist a_ptLabel a_ptKind a_ptFirst a_ptSecond a_before a_after a_exitOf a_head a_rankOf a_byRank a_codeStart a_codeEnd a_codeOp a_codeDst a_codeMode a_codeX a_codeY a_values a_status a_result a_forks a_outCount a_output a_place g_points g_dyn g_at b_code b_pLabel b_pVal b_result b_forks b_outs b_val) : f_residual = 0 → a_status 0 = 0 ∧ a_outCount 0 = 0 := by
  intro h
  rcases F.2.2.2.2.2.2 with ⟨_, _, a, b⟩ | ⟨a, _⟩
  · exact ⟨a, b⟩
  · rw [h] at a; exact absurd a (by decide)
theorem zz_dr {k V B L Q C : Nat} {sz : Nat → Nat} {g_dyn g_at p1 : Int32} {b_code b_pLabel b_pVal b_result b_forks b_outs b_val rs fk pc : Nat → Int32}
    (hc : (2 ≤ V ∧ V ≤ 8) ∧ (2 ≤ B ∧ B ≤ 16) ∧ (1 ≤ L ∧ L ≤ 6) ∧ (4 ≤ Q ∧ Q ≤ 32) ∧ C < B) (hs : pu_src V B L sz b_code a_stmt a_stmtCount a_term)
    (hu : ∀ v u, v < V → u < V → a_uses (v * 8 + u) = nI (pu_us b_code sz v u 16)) (hd : ∀ v, v < V → pu_dist V a_marked (pu_dep sz b_code) v (a_dist v)) (hi : ∀ v, V ≤ v → v < 8 → a_initial v = 0)
    (hdr : pu_dr V (a_status 1) a_values a_result a_forks a_outCount b_val b_result b_forks b_outs) (e1 : rs 1 = a_result 1) (e2 : fk 1 = a_forks 1) (e3 : pc 1 = p1) :
    i_Rel k ((nI V), (nI B), (nI L), (nI Q), f_residualMachine, f_directMachine, f_work, f_opMove, f_opOut, f_countCap, (nI C), 0, f_found, f_codeSize, a_stmt, a_stmtCount, a_term, a_rom, a_initial, a_marked, a_uses, a_dist, a_ptLabel, a_ptKind, a_ptFirst, a_ptSecond, a_before, a_after, a_exitOf, a_head, a_rankOf, a_byRank, a_codeStart, a_codeEnd, a_codeOp, a_codeDst, a_codeMode, a_codeX, a_codeY, a_values, (upd a_status 0 0), rs, fk, (upd a_outCount 0 0), a_output, pc) ((nI V), (nI B), (nI L), (nI Q), (nI C), 0, g_dyn, g_at, p1, b_code, a_stmtCount, a_rom, a_initial, a_marked, b_pLabel, b_pVal, (upd a_status 0 0), b_result, b_forks, b_outs, a_output, b_val) := by
  subst e3
  exact zz_in (F_drop hc hs hu hd hi hdr e1 e2)
end
theorem ad_step {w0 w1 w2 : Int32} {d v u s : Nat} {x y : Int32} {cd : Nat → Int32} {r : Nat} (hv : v < 8) (hd : d < 8) (h1 : cd r = 1) (ed : cd (r + 1) = nI d) (ex : cd (r + 3) = x) (ey : cd (r + 4) = y) (e0 : w0 = nI s)
    (e1 : w1 = w0 + (if v = d ∧ x = nI u then 1 else 0)) (e2 : w2 = w1 + (if v = d ∧ y = nI u then 1 else 0)) : w2 = nI (s + pu_w cd v u r) := by
  unfold pu_w
  rw [h1, ed, ex, ey, e2, e1, e0, ← nI_add]
  by_cases z : v = d
  · subst z
    rw [if_pos (show (1 : Int32) = 1 ∧ nI v = nI v from ⟨rfl, rfl⟩)]
    by_cases a : x = nI u
    · by_cases b : y = nI u
      · rw [if_pos ⟨rfl, a⟩, if_pos ⟨rfl, b⟩, if_pos a, if_pos b, show nI (1 + 1) = 2 from rfl]; grind
      · rw [if_pos ⟨rfl, a⟩, if_neg (fun q => b q.2), if_pos a, if_neg b, show nI (1 + 0) = 1 from rfl]; grind
    · by_cases b : y = nI u
      · rw [if_neg (fun q => a q.2), if_pos ⟨rfl, b⟩, if_neg a, if_pos b, show nI (0 + 1) = 1 from rfl]; grind
      · rw [if_neg (fun q => a q.2), if_neg (fun q => b q.2), if_neg a, if_neg b, show nI (0 + 0) = 0 from rfl]; grind
  · rw [if_neg (fun q => z q.1), if_neg (fun q => z q.1), if_neg (fun q => z ((nI_eq (by omega) (by omega)).mp q.2).symm), show nI 0 = 0 from rfl]; grind
theorem ar_cancel {a b c : Int32} (h : a + c = b + c) : a = b := by grind
theorem f5_0 {a b c d e : Int32} : pu_f5 a b c d e 0 = a := rfl
theorem f5_1 {a b c d e : Int32} : pu_f5 a b c d e 1 = b := rfl
theorem f5_2 {a b c d e : Int32} : pu_f5 a b c d e 2 = c := rfl
theorem f5_3 {a b c d e : Int32} : pu_f5 a b c d e 3 = d := rfl
theorem f5_4 {a b c d e : Int32} : pu_f5 a b c d e 4 = e := rfl
theorem i_vc_block {k : Nat} {u : SX} {v : SY} (I : i_Rel k u v) (hk : k + 5 ≤ 2564) (v1 : Int32) : wpX_block (fun r u' => wpY_block (fun r' v' => r' = r ∧ i_Rel (k + 5) u' v') v v1) u v1 := by
  refine zz_el (P := fun u v => wpX_block (fun r u' => wpY_block (fun r' v' => r' = r ∧ i_Rel (k + 5) u' v') v v1) u v1) I ?_
  intro V B L Q C sz f_residualMachine f_directMachine f_work f_opMove f_opOut f_countCap f_residual f_found f_codeSize a_stmt a_stmtCount a_term a_rom a_initial a_marked a_uses a_dist a_ptLabel a_ptKind a_ptFirst a_ptSecond a_before a_after a_exitOf a_head a_rankOf a_byRank a_codeStart a_codeEnd a_codeOp a_codeDst a_codeMode a_codeX a_codeY a_values a_status a_result a_forks a_outCount a_output a_place g_points g_dyn g_at b_code b_pLabel b_pVal b_result b_forks b_outs b_val F
  obtain ⟨⟨⟨hV2, hV⟩, ⟨hB2, hB⟩, ⟨hL1, hL⟩, ⟨hQ4, hQ⟩, hC⟩, hs, hu, hd, hi, hdr, hr⟩ := id F
  unfold wpX_block
  rcases pk_ix v1 (n := B) (by omega) with h | h | ⟨l, hl, rfl⟩
  · refine xw_lab0 (Or.inl h) (br_t rfl ?_)
    unfold wpY_block
    exact yw_lab0 (Or.inl h) (br_f (by decide) ⟨rfl, zz_in F⟩)
  · refine xw_lab0 (Or.inr h) (br_t rfl ?_)
    unfold wpY_block
    exact yw_lab0 (Or.inr h) (br_f (by decide) ⟨rfl, zz_in F⟩)
  have hl16 : l < 16 := by omega
  refine xw_lab1 hl hB (br_f (by decide) (xw_forget hs hV hL hl16 (fun w hw => And.intro (vp_in_nI hl16 (by omega)) (nm_r (e' := upd a_stmtCount l 0) (by rw [nI_clamp (by omega)]) ⟨6, ?_⟩))))
  have hus := sr_us_blk (cd' := pu_gl b_code (l * 35) 35 (fun _ => 0)) hs hL hl16 (fun j hj => gl_out hj)
  have hw' : ∀ v u, v < V → u < V → w (v * 8 + u) = nI (pu_us (pu_gl b_code (l * 35) 35 (fun _ => 0)) (pu_un sz l 0) v u 16) := by
    intro v u hv hu'
    apply ar_cancel (c := nI (pu_ws b_code v u l (sz l)))
    rw [hw v u hv hu', hu v u hv hu', nI_add, hus v u]
  have hz' : ∀ j, j < 16 → pu_un sz l 0 j ≤ 6 := by
    intro j hj
    by_cases e : j = l
    · rw [e, un_s]; omega
    · rw [un_n e]; exact Nat.le_trans (sr_sz hs hj) hL
  refine xw_block24 (dep := pu_dep (pu_un sz l 0) (pu_gl b_code (l * 35) 35 (fun _ => 0))) hl16 (by omega) hV (us_pd hz' hw') (F_hd F) (fun a_term' a_dist' h3 h4 hdist rs fk pc e1 e2 e3 => ?_) 5 0 (by omega) a_term (fun f hf => by omega) (fun _ _ => rfl) _ (by omega)
  refine yw_block hl hB (fun c h1 h2 => ?_)
  obtain rfl := gl_eq (a := b_code) (k := l * 35) (N := 35) (f := fun _ => 0) h1 h2
  exact ⟨rfl, zz_dr ⟨⟨hV2, hV⟩, ⟨hB2, hB⟩, ⟨hL1, hL⟩, ⟨hQ4, hQ⟩, hl⟩ (sr_block hs hL hl16 h1 h2 h3 h4) hw' hdist hi hdr e1 e2 e3⟩
end
section
theorem us_same {V : Nat} {cd cd' uses mk dist : Nat → Int32} {sz sz' : Nat → Nat} (h : ∀ v u, pu_us cd' sz' v u 16 = pu_us cd sz v u 16) (hu : ∀ v u, v < V → u < V → uses (v * 8 + u) = nI (pu_us cd sz v u 16)) (hd : ∀ v, v < V → pu_dist V mk (pu_dep sz cd) v (dist v)) :
    (∀ v u, v < V → u < V → uses (v * 8 + u) = nI (pu_us cd' sz' v u 16)) ∧ (∀ v, v < V → pu_dist V mk (pu_dep sz' cd') v (dist v)) :=
  ⟨fun v u hv hu' => by rw [h v u]; exact hu v u hv hu', fun v hv => di_congr (fun v u _ _ => by rw [← us_dep, ← us_dep, h v u]) (hd v hv)⟩
theorem row_at {cd' : Nat → Int32} {r : Nat} {x0 x1 x2 x3 x4 : Int32} (h : ∀ f, f < 5 → cd' (r + f) = pu_f5 x0 x1 x2 x3 x4 f) : cd' r = x0 ∧ cd' (r + 1) = x1 ∧ cd' (r + 2) = x2 ∧ cd' (r + 3) = x3 ∧ cd' (r + 4) = x4 :=
  ⟨h 0 (by omega), h 1 (by omega), h 2 (by omega), h 3 (by omega), h 4 (by omega)⟩
theorem i_vc_emit {k : Nat} {u : SX} {v : SY} (I : i_Rel k u v) (hk : k + 5 ≤ 2564) (v1 : Int32) : wpX_emit (fun r u' => wpY_emit (fun r' v' => r' = r ∧ i_Rel (k + 5) u' v') v v1) u v1 := by
  refine zz_el (P := fun u v => wpX_emit (fun r u' => wpY_emit (fun r' v' => r' = r ∧ i_Rel (k + 5) u' v') v v1) u v1) I ?_
  intro V B L Q C sz f_residualMachine f_directMachine f_work f_opMove f_opOut f_countCap f_residual f_found f_codeSize a_stmt a_stmtCount a_term a_rom a_initial a_marked a_uses a_dist a_ptLabel a_ptKind a_ptFirst a_ptSecond a_before a_after a_exitOf a_head a_rankOf a_byRank a_codeStart a_codeEnd a_codeOp a_codeDst a_codeMode a_codeX a_codeY a_values a_status a_result a_forks a_outCount a_output a_place g_points g_dyn g_at b_code b_pLabel b_pVal b_result b_forks b_outs b_val F
  obtain ⟨⟨⟨hV2, hV⟩, ⟨hB2, hB⟩, ⟨hL1, hL⟩, ⟨hQ4, hQ⟩, hC⟩, hs, hu, hd, hi, hdr, hr⟩ := id F
  unfold wpX_emit
  by_cases h : v1 < nI V
  · have hC16 : C < 16 := by omega
    have hz := Nat.le_trans (sr_sz hs hC16) hL
    have hT : a_term (C * 5) = b_code (C * 35 + sz C * 5) := sr_tm hs 0 hC16 (by omega)
    refine xw_opd1 h (br_f (by decide) (xw_room hC16 (sr_cnt hs hC16) (by omega) hL (fun g1 => ?_) (fun g1 g2 => ?_) (fun g1 g2 => ?_)))
    · rw [hT] at g1
      exact br_f (by decide) (br_t h (yw_append hC16 (sr_cnt hs hC16) hz hL (fun _ => ⟨rfl, zz_in F⟩) (fun z => absurd z g1) (fun z => absurd z g1)))
    · rw [hT] at g1
      exact br_f (by decide) (br_t h (yw_append hC16 (sr_cnt hs hC16) hz hL (fun z => absurd g1 z) (fun _ _ => ⟨rfl, zz_in F⟩) (fun _ z => absurd z g2)))
    · rw [hT] at g1
      refine br_t rfl (xw_append hC16 (sr_cnt hs hC16) (by omega) (F_hd F) (fun rs fk pc e1 e2 e3 => ?_))
      refine br_t h (yw_append hC16 (sr_cnt hs hC16) hz hL (fun z => absurd g1 z) (fun _ z => absurd g2 z) (fun _ _ => ⟨rfl, ?_⟩))
      have hs' := sr_append (x0 := 2) (x1 := v1) (x2 := 0) (x3 := 0) (x4 := 0) hs hL hC16 g2 g1 (fun cd' r hh => Or.inr ⟨(row_at hh).1, by rw [(row_at hh).2.1]; exact ar_op hV h⟩)
      have hus := us_same (V := V) (sz := sz) (cd := b_code) (uses := a_uses) (mk := a_marked) (dist := a_dist) (fun v u => by
        rw [sr_us_app (x0 := 2) (x1 := v1) (x2 := 0) (x3 := 0) (x4 := 0) hs hL hC16 v u]
        have : pu_w (pu_p5 b_code (C * 35 + sz C * 5) 2 v1 0 0 0) v u (C * 35 + sz C * 5) = 0 := if_neg (fun z => by
          have e : pu_p5 b_code (C * 35 + sz C * 5) 2 v1 0 0 0 (C * 35 + sz C * 5) = 2 := p5_in (f := 0) (by omega)
          rw [e] at z; exact absurd z.1 (by decide))
        rw [this, Nat.add_zero]) hu hd
      exact zz_dr ⟨⟨hV2, hV⟩, ⟨hB2, hB⟩, ⟨hL1, hL⟩, ⟨hQ4, hQ⟩, hC⟩ hs' hus.1 hus.2 hi hdr e1 e2 e3
  · exact xw_opd0 h (br_t rfl (br_f h ⟨rfl, zz_in F⟩))
theorem i_vc_assign {k : Nat} {u : SX} {v : SY} (I : i_Rel k u v) (hk : k + 5 ≤ 2564) (v1 : Int32) (v2 : Int32) (v3 : Int32) (v4 : Int32) : wpX_assign (fun r u' => wpY_assign (fun r' v' => r' = r ∧ i_Rel (k + 5) u' v') v v1 v2 v3 v4) u v1 v2 v3 v4 := by
  refine zz_el (P := fun u v => wpX_assign (fun r u' => wpY_assign (fun r' v' => r' = r ∧ i_Rel (k + 5) u' v') v v1 v2 v3 v4) u v1 v2 v3 v4) I ?_
  intro V B L Q C sz f_residualMachine f_directMachine f_work f_opMove f_opOut f_countCap f_residual f_found f_codeSize a_stmt a_stmtCount a_term a_rom a_initial a_marked a_uses a_dist a_ptLabel a_ptKind a_ptFirst a_ptSecond a_before a_after a_exitOf a_head a_rankOf a_byRank a_codeStart a_codeEnd a_codeOp a_codeDst a_codeMode a_codeX a_codeY a_values a_status a_result a_forks a_outCount a_output a_place g_points g_dyn g_at b_code b_pLabel b_pVal b_result b_forks b_outs b_val F
  obtain ⟨⟨⟨hV2, hV⟩, ⟨hB2, hB⟩, ⟨hL1, hL⟩, ⟨hQ4, hQ⟩, hC⟩, hs, hu, hd, hi, hdr, hr⟩ := id F
  unfold wpX_assign
  rcases pk_ix v1 (n := V) (by omega) with h | h | ⟨d, hdV, rfl⟩
  · refine xw_var0 (Or.inl h) (br_t rfl ?_)
    unfold wpY_assign
    exact yw_var0 (Or.inl h) (br_f (by decide) ⟨rfl, zz_in F⟩)
  · refine xw_var0 (Or.inr h) (br_t rfl ?_)
    unfold wpY_assign
    exact yw_var0 (Or.inr h) (br_f (by decide) ⟨rfl, zz_in F⟩)
  refine xw_var1 hdV hV (br_f (by decide) (br_c (fun o1 => ?_) (fun o1 => br_c (fun o2 => ?_) (fun o2 => ?_))))
  · unfold wpY_assign
    exact yw_var1 hdV hV (br_t rfl (br_t o1 ⟨rfl, zz_in F⟩))
  · unfold wpY_assign
    exact yw_var1 hdV hV (br_t rfl (br_f o1 (br_t o2 ⟨rfl, zz_in F⟩)))
  obtain ⟨o, ho, rfl⟩ := nI_of2 (M := 9) (n := 9) (by decide) o1 (ar_lt o2)
  by_cases h3 : v3 < nI V
  · by_cases h4 : v4 < nI V
    · have hC16 : C < 16 := by omega
      have hz := Nat.le_trans (sr_sz hs hC16) hL
      have hT : a_term (C * 5) = b_code (C * 35 + sz C * 5) := sr_tm hs 0 hC16 (by omega)
      have yst : ∀ post : Int32 → SY → Prop, wpY_append post ((nI V), (nI B), (nI L), (nI Q), (nI C), g_points, g_dyn, g_at, (a_place 1), b_code, a_stmtCount, a_rom, a_initial, a_marked, b_pLabel, b_pVal, a_status, b_result, b_forks, b_outs, a_output, b_val) 1 (nI d) (nI o) v3 v4 → wpY_assign post ((nI V), (nI B), (nI L), (nI Q), (nI C), g_points, g_dyn, g_at, (a_place 1), b_code, a_stmtCount, a_rom, a_initial, a_marked, b_pLabel, b_pVal, a_status, b_result, b_forks, b_outs, a_output, b_val) (nI d) (nI o) v3 v4 := by
        intro post K
        unfold wpY_assign
        exact yw_var1 hdV hV (br_t rfl (br_f o1 (br_f o2 (br_f (ar_nle h3) (br_t h4 K)))))
      refine xw_opd1 h3 (br_f (by decide) (xw_opd1 h4 (br_f (by decide) (xw_room hC16 (sr_cnt hs hC16) (by omega) hL (fun g1 => ?_) (fun g1 g2 => ?_) (fun g1 g2 => ?_)))))
      · rw [hT] at g1
        exact br_f (by decide) (yst _ (yw_append hC16 (sr_cnt hs hC16) hz hL (fun _ => ⟨rfl, zz_in F⟩) (fun z => absurd z g1) (fun z => absurd z g1)))
      · rw [hT] at g1
        exact br_f (by decide) (yst _ (yw_append hC16 (sr_cnt hs hC16) hz hL (fun z => absurd g1 z) (fun _ _ => ⟨rfl, zz_in F⟩) (fun _ z => absurd z g2)))
      · rw [hT] at g1
        have e0 : pu_p5 b_code (C * 35 + sz C * 5) 1 (nI d) (nI o) v3 v4 (C * 35 + sz C * 5) = 1 := p5_in (f := 0) (by omega)
        have e1' : pu_p5 b_code (C * 35 + sz C * 5) 1 (nI d) (nI o) v3 v4 (C * 35 + sz C * 5 + 1) = nI d := p5_in (f := 1) (by omega)
        have e3' : pu_p5 b_code (C * 35 + sz C * 5) 1 (nI d) (nI o) v3 v4 (C * 35 + sz C * 5 + 3) = v3 := p5_in (f := 3) (by omega)
        have e4' : pu_p5 b_code (C * 35 + sz C * 5) 1 (nI d) (nI o) v3 v4 (C * 35 + sz C * 5 + 4) = v4 := p5_in (f := 4) (by omega)
        have hs' := sr_append (x0 := 1) (x1 := nI d) (x2 := nI o) (x3 := v3) (x4 := v4) hs hL hC16 g2 g1 (fun cd' r hh => Or.inl ⟨(row_at hh).1, ⟨d, hdV, (row_at hh).2.1⟩, ⟨o, ho, (row_at hh).2.2.1⟩, by rw [(row_at hh).2.2.2.1]; exact ar_op hV h3, by rw [(row_at hh).2.2.2.2]; exact ar_op hV h4⟩)
        refine br_t rfl (xw_append hC16 (sr_cnt hs hC16) (by omega) (F_hd F) (fun rs fk pc e1 e2 e3 => ?_))
        refine xw_cuse rfl rfl hV hdV (ar_op hV h3) (fun w1 hw1 => xw_cuse rfl rfl hV hdV (ar_op hV h4) (fun w2 hw2 => ?_))
        have hu' : ∀ v u, v < V → u < V → w2 (v * 8 + u) = nI (pu_us (pu_p5 b_code (C * 35 + sz C * 5) 1 (nI d) (nI o) v3 v4) (pu_un sz C (sz C + 1)) v u 16) := by
          intro v u hv hu2
          rw [sr_us_app (x0 := 1) (x1 := nI d) (x2 := nI o) (x3 := v3) (x4 := v4) hs hL hC16 v u]
          exact ad_step (by omega) (by omega) e0 e1' e3' e4' (hu v u hv hu2) (hw1 v u hv hu2) (hw2 v u hv hu2)
        refine xw_analyse (dep := pu_dep (pu_un sz C (sz C + 1)) (pu_p5 b_code (C * 35 + sz C * 5) 1 (nI d) (nI o) v3 v4)) (by omega) hV (us_pd (fun l hl => Nat.le_trans (sr_sz hs' hl) hL) hu') (fun a_dist' hdist => ?_)
        exact yst _ (yw_append hC16 (sr_cnt hs hC16) hz hL (fun z => absurd g1 z) (fun _ z => absurd g2 z) (fun _ _ => ⟨rfl, zz_dr ⟨⟨hV2, hV⟩, ⟨hB2, hB⟩, ⟨hL1, hL⟩, ⟨hQ4, hQ⟩, hC⟩ hs' hu' hdist hi hdr e1 e2 e3⟩))
    · refine xw_opd1 h3 (br_f (by decide) (xw_opd0 h4 (br_t rfl ?_)))
      unfold wpY_assign
      exact yw_var1 hdV hV (br_t rfl (br_f o1 (br_f o2 (br_f (ar_nle h3) (br_f h4 ⟨rfl, zz_in F⟩)))))
  · refine xw_opd0 h3 (br_t rfl ?_)
    unfold wpY_assign
    exact yw_var1 hdV hV (br_t rfl (br_f o1 (br_f o2 (br_t (ar_lt h3) ⟨rfl, zz_in F⟩))))
section
variable {f_residualMachine f_directMachine f_work f_opMove f_opOut f_countCap f_residual f_found f_codeSize : Int32} {a_stmt a_stmtCount a_term a_rom a_initial a_marked a_uses a_dist a_ptLabel a_ptKind a_ptFirst a_ptSecond a_before a_after a_exitOf a_head a_rankOf a_byRank a_codeStart a_codeEnd a_codeOp a_codeDst a_codeMode a_codeX a_codeY a_values a_status a_result a_forks a_outCount a_output a_place : Nat → Int32} {V B L Q C k : Nat} {sz : Nat → Nat} {g_points g_dyn g_at : Int32} {b_code b_pLabel b_pVal b_result b_forks b_outs b_val : Nat → Int32}
/-- closing a block, on both sides -/
theorem lk_close {x0 x1 x2 x3 : Int32} {WY : (Int32 → SY → Prop) → Prop} (F : pu_F V B L Q C sz f_residual f_found a_stmt a_stmtCount a_term a_rom a_initial a_marked a_uses a_dist a_ptLabel a_ptKind a_ptFirst a_ptSecond a_before a_after a_exitOf a_head a_rankOf a_byRank a_codeStart a_codeEnd a_codeOp a_codeDst a_codeMode a_codeX a_codeY a_values a_status a_result a_forks a_outCount a_output a_place g_points g_dyn g_at b_code b_pLabel b_pVal b_result b_forks b_outs b_val)
    (hr : ∀ cd' r, (∀ f, f < 5 → cd' (r + f) = pu_f5 x0 x1 x2 x3 0 f) → pu_ter V B cd' r) (hY : ∀ post, wpY_close post ((nI V), (nI B), (nI L), (nI Q), (nI C), g_points, g_dyn, g_at, (a_place 1), b_code, a_stmtCount, a_rom, a_initial, a_marked, b_pLabel, b_pVal, a_status, b_result, b_forks, b_outs, a_output, b_val) x0 x1 x2 x3 → WY post) :
    wpX_close (fun r u' => WY (fun r' v' => r' = r ∧ i_Rel (k + 5) u' v')) ((nI V), (nI B), (nI L), (nI Q), f_residualMachine, f_directMachine, f_work, f_opMove, f_opOut, f_countCap, (nI C), f_residual, f_found, f_codeSize, a_stmt, a_stmtCount, a_term, a_rom, a_initial, a_marked, a_uses, a_dist, a_ptLabel, a_ptKind, a_ptFirst, a_ptSecond, a_before, a_after, a_exitOf, a_head, a_rankOf, a_byRank, a_codeStart, a_codeEnd, a_codeOp, a_codeDst, a_codeMode, a_codeX, a_codeY, a_values, a_status, a_result, a_forks, a_outCount, a_output, a_place) x0 x1 x2 x3 := by
  obtain ⟨⟨⟨hV2, hV⟩, ⟨hB2, hB⟩, ⟨hL1, hL⟩, ⟨hQ4, hQ⟩, hC⟩, hs, hu, hd, hi, hdr, _⟩ := id F
  have hC16 : C < 16 := by omega
  have hz := Nat.le_trans (sr_sz hs hC16) hL
  have hT : a_term (C * 5) = b_code (C * 35 + sz C * 5) := sr_tm hs 0 hC16 (by omega)
  refine xw_close hC16 hB (F_hd F) (fun g1 => ?_) (fun g1 rs fk pc e1 e2 e3 => ?_)
  · rw [hT] at g1
    exact hY _ (yw_close hC16 (sr_cnt hs hC16) hz hB (fun _ => ⟨rfl, zz_in F⟩) (fun z => absurd z g1))
  · rw [hT] at g1
    have hs' := sr_close (x0 := x0) (x1 := x1) (x2 := x2) (x3 := x3) hs hL hC16 g1 hr
    have hus := us_same (V := V) (sz := sz) (cd := b_code) (uses := a_uses) (mk := a_marked) (dist := a_dist) (fun v u => sr_us_close (x0 := x0) (x1 := x1) (x2 := x2) (x3 := x3) hs hL hC16 v u) hu hd
    exact hY _ (yw_close hC16 (sr_cnt hs hC16) hz hB (fun z => absurd g1 z) (fun _ => ⟨rfl, zz_dr ⟨⟨hV2, hV⟩, ⟨hB2, hB⟩, ⟨hL1, hL⟩, ⟨hQ4, hQ⟩, by split <;> omega⟩ hs' hus.1 hus.2 hi hdr e1 e2 e3⟩))
end
theorem i_vc_jump {k : Nat} {u : SX} {v : SY} (I : i_Rel k u v) (hk : k + 5 ≤ 2564) (v1 : Int32) : wpX_jump (fun r u' => wpY_jump (fun r' v' => r' = r ∧ i_Rel (k + 5) u' v') v v1) u v1 := by
  refine zz_el (P := fun u v => wpX_jump (fun r u' => wpY_jump (fun r' v' => r' = r ∧ i_Rel (k + 5) u' v') v v1) u v1) I ?_
  intro V B L Q C sz f_residualMachine f_directMachine f_work f_opMove f_opOut f_countCap f_residual f_found f_codeSize a_stmt a_stmtCount a_term a_rom a_initial a_marked a_uses a_dist a_ptLabel a_ptKind a_ptFirst a_ptSecond a_before a_after a_exitOf a_head a_rankOf a_byRank a_codeStart a_codeEnd a_codeOp a_codeDst a_codeMode a_codeX a_codeY a_values a_status a_result a_forks a_outCount a_output a_place g_points g_dyn g_at b_code b_pLabel b_pVal b_result b_forks b_outs b_val F
  obtain ⟨⟨⟨hV2, hV⟩, ⟨hB2, hB⟩, ⟨hL1, hL⟩, ⟨hQ4, hQ⟩, hC⟩, hs, hu, hd, hi, hdr, hr⟩ := id F
  unfold wpX_jump
  rcases pk_ix v1 (n := B) (by omega) with h | h | ⟨l, hl, rfl⟩
  · refine xw_lab0 (Or.inl h) (br_t rfl ?_)
    unfold wpY_jump
    exact yw_lab0 (Or.inl h) (br_f (by decide) ⟨rfl, zz_in F⟩)
  · refine xw_lab0 (Or.inr h) (br_t rfl ?_)
    unfold wpY_jump
    exact yw_lab0 (Or.inr h) (br_f (by decide) ⟨rfl, zz_in F⟩)
  · refine xw_lab1 hl hB (br_f (by decide) ?_)
    refine lk_close (WY := fun post => wpY_jump post ((nI V), (nI B), (nI L), (nI Q), (nI C), g_points, g_dyn, g_at, (a_place 1), b_code, a_stmtCount, a_rom, a_initial, a_marked, b_pLabel, b_pVal, a_status, b_result, b_forks, b_outs, a_output, b_val) (nI l)) F (fun cd' r hh => Or.inr (Or.inl ⟨(row_at hh).1, l, hl, (row_at hh).2.1⟩)) (fun post K => ?_)
    unfold wpY_jump
    exact yw_lab1 hl hB (br_t rfl K)
theorem i_vc_branch {k : Nat} {u : SX} {v : SY} (I : i_Rel k u v) (hk : k + 5 ≤ 2564) (v1 : Int32) (v2 : Int32) (v3 : Int32) : wpX_branch (fun r u' => wpY_branch (fun r' v' => r' = r ∧ i_Rel (k + 5) u' v') v v1 v2 v3) u v1 v2 v3 := by
  refine zz_el (P := fun u v => wpX_branch (fun r u' => wpY_branch (fun r' v' => r' = r ∧ i_Rel (k + 5) u' v') v v1 v2 v3) u v1 v2 v3) I ?_
  intro V B L Q C sz f_residualMachine f_directMachine f_work f_opMove f_opOut f_countCap f_residual f_found f_codeSize a_stmt a_stmtCount a_term a_rom a_initial a_marked a_uses a_dist a_ptLabel a_ptKind a_ptFirst a_ptSecond a_before a_after a_exitOf a_head a_rankOf a_byRank a_codeStart a_codeEnd a_codeOp a_codeDst a_codeMode a_codeX a_codeY a_values a_status a_result a_forks a_outCount a_output a_place g_points g_dyn g_at b_code b_pLabel b_pVal b_result b_forks b_outs b_val F
  obtain ⟨⟨⟨hV2, hV⟩, ⟨hB2, hB⟩, ⟨hL1, hL⟩, ⟨hQ4, hQ⟩, hC⟩, hs, hu, hd, hi, hdr, hr⟩ := id F
  unfold wpX_branch
  by_cases h1 : v1 < nI V
  · refine xw_opd1 h1 (br_f (by decide) ?_)
    rcases pk_ix v2 (n := B) (by omega) with h | h | ⟨l, hl, rfl⟩
    · exact xw_lab0 (Or.inl h) (br_t rfl (br_f (ar_nle h1) (yw_lab0 (Or.inl h) (br_f (by decide) ⟨rfl, zz_in F⟩))))
    · exact xw_lab0 (Or.inr h) (br_t rfl (br_f (ar_nle h1) (yw_lab0 (Or.inr h) (br_f (by decide) ⟨rfl, zz_in F⟩))))
    refine xw_lab1 hl hB (br_f (by decide) ?_)
    rcases pk_ix v3 (n := B) (by omega) with h | h | ⟨l2, hl2, rfl⟩
    · exact xw_lab0 (Or.inl h) (br_t rfl (br_f (ar_nle h1) (yw_lab1 hl hB (br_t rfl (yw_lab0 (Or.inl h) (br_f (by decide) ⟨rfl, zz_in F⟩))))))
    · exact xw_lab0 (Or.inr h) (br_t rfl (br_f (ar_nle h1) (yw_lab1 hl hB (br_t rfl (yw_lab0 (Or.inr h) (br_f (by decide) ⟨rfl, zz_in F⟩))))))
    refine xw_lab1 hl2 hB (br_f (by decide) ?_)
    exact lk_close (WY := fun post => wpY_branch post ((nI V), (nI B), (nI L), (nI Q), (nI C), g_points, g_dyn, g_at, (a_place 1), b_code, a_stmtCount, a_rom, a_initial, a_marked, b_pLabel, b_pVal, a_status, b_result, b_forks, b_outs, a_output, b_val) v1 (nI l) (nI l2)) F (fun cd' r hh => Or.inr (Or.inr (Or.inl ⟨(row_at hh).1, by rw [(row_at hh).2.1]; exact ar_op hV h1, ⟨l, hl, (row_at hh).2.2.1⟩, ⟨l2, hl2, (row_at hh).2.2.2.1⟩⟩))) (fun post K => br_f (ar_nle h1) (yw_lab1 hl hB (br_t rfl (yw_lab1 hl2 hB (br_t rfl K)))))
  · exact xw_opd0 h1 (br_t rfl (br_t (ar_lt h1) ⟨rfl, zz_in F⟩))
theorem i_vc_ret {k : Nat} {u : SX} {v : SY} (I : i_Rel k u v) (hk : k + 5 ≤ 2564) (v1 : Int32) : wpX_ret (fun r u' => wpY_ret (fun r' v' => r' = r ∧ i_Rel (k + 5) u' v') v v1) u v1 := by
  refine zz_el (P := fun u v => wpX_ret (fun r u' => wpY_ret (fun r' v' => r' = r ∧ i_Rel (k + 5) u' v') v v1) u v1) I ?_
  intro V B L Q C sz f_residualMachine f_directMachine f_work f_opMove f_opOut f_countCap f_residual f_found f_codeSize a_stmt a_stmtCount a_term a_rom a_initial a_marked a_uses a_dist a_ptLabel a_ptKind a_ptFirst a_ptSecond a_before a_after a_exitOf a_head a_rankOf a_byRank a_codeStart a_codeEnd a_codeOp a_codeDst a_codeMode a_codeX a_codeY a_values a_status a_result a_forks a_outCount a_output a_place g_points g_dyn g_at b_code b_pLabel b_pVal b_result b_forks b_outs b_val F
  obtain ⟨⟨⟨hV2, hV⟩, ⟨hB2, hB⟩, ⟨hL1, hL⟩, ⟨hQ4, hQ⟩, hC⟩, hs, hu, hd, hi, hdr, hr⟩ := id F
  unfold wpX_ret
  by_cases h1 : v1 < nI V
  · refine xw_opd1 h1 (br_f (by decide) ?_)
    exact lk_close (WY := fun post => wpY_ret post ((nI V), (nI B), (nI L), (nI Q), (nI C), g_points, g_dyn, g_at, (a_place 1), b_code, a_stmtCount, a_rom, a_initial, a_marked, b_pLabel, b_pVal, a_status, b_result, b_forks, b_outs, a_output, b_val) v1) F (fun cd' r hh => Or.inr (Or.inr (Or.inr ⟨(row_at hh).1, by rw [(row_at hh).2.1]; exact ar_op hV h1⟩))) (fun post K => br_t h1 K)
  · exact xw_opd0 h1 (br_t rfl (br_f h1 ⟨rfl, zz_in F⟩))
theorem i_vc_setRom {k : Nat} {u : SX} {v : SY} (I : i_Rel k u v) (hk : k + 5 ≤ 2564) (v1 : Int32) (v2 : Int32) : wpX_setRom (fun r u' => wpY_setRom (fun r' v' => r' = r ∧ i_Rel (k + 5) u' v') v v1 v2) u v1 v2 := by
  refine zz_el (P := fun u v => wpX_setRom (fun r u' => wpY_setRom (fun r' v' => r' = r ∧ i_Rel (k + 5) u' v') v v1 v2) u v1 v2) I ?_
  intro V B L Q C sz f_residualMachine f_directMachine f_work f_opMove f_opOut f_countCap f_residual f_found f_codeSize a_stmt a_stmtCount a_term a_rom a_initial a_marked a_uses a_dist a_ptLabel a_ptKind a_ptFirst a_ptSecond a_before a_after a_exitOf a_head a_rankOf a_byRank a_codeStart a_codeEnd a_codeOp a_codeDst a_codeMode a_codeX a_codeY a_values a_status a_result a_forks a_outCount a_output a_place g_points g_dyn g_at b_code b_pLabel b_pVal b_result b_forks b_outs b_val F
  obtain ⟨⟨⟨hV2, hV⟩, ⟨hB2, hB⟩, ⟨hL1, hL⟩, ⟨hQ4, hQ⟩, hC⟩, hs, hu, hd, hi, hdr, hr⟩ := id F
  refine br_c (fun g1 => br_t g1 ⟨rfl, zz_in F⟩) (fun g1 => br_c (fun g2 => And.intro (ar_in16 g1 g2) (nm_e ?_)) (fun g2 => br_f g1 (br_f g2 ⟨rfl, zz_in F⟩)))
  refine xw_dropK (F_hd F) (fun rs fk pc e1 e2 e3 => br_f g1 (br_t g2 (And.intro (ar_in16 g1 g2) (nm_e (yw_drop ⟨rfl, ?_⟩)))))
  exact zz_dr ⟨⟨hV2, hV⟩, ⟨hB2, hB⟩, ⟨hL1, hL⟩, ⟨hQ4, hQ⟩, hC⟩ hs hu hd hi hdr e1 e2 e3
theorem i_vc_setVar {k : Nat} {u : SX} {v : SY} (I : i_Rel k u v) (hk : k + 5 ≤ 2564) (v1 : Int32) (v2 : Int32) : wpX_setVar (fun r u' => wpY_setVar (fun r' v' => r' = r ∧ i_Rel (k + 5) u' v') v v1 v2) u v1 v2 := by
  refine zz_el (P := fun u v => wpX_setVar (fun r u' => wpY_setVar (fun r' v' => r' = r ∧ i_Rel (k + 5) u' v') v v1 v2) u v1 v2) I ?_
  intro V B L Q C sz f_residualMachine f_directMachine f_work f_opMove f_opOut f_countCap f_residual f_found f_codeSize a_stmt a_stmtCount a_term a_rom a_initial a_marked a_uses a_dist a_ptLabel a_ptKind a_ptFirst a_ptSecond a_before a_after a_exitOf a_head a_rankOf a_byRank a_codeStart a_codeEnd a_codeOp a_codeDst a_codeMode a_codeX a_codeY a_values a_status a_result a_forks a_outCount a_output a_place g_points g_dyn g_at b_code b_pLabel b_pVal b_result b_forks b_outs b_val F
  obtain ⟨⟨⟨hV2, hV⟩, ⟨hB2, hB⟩, ⟨hL1, hL⟩, ⟨hQ4, hQ⟩, hC⟩, hs, hu, hd, hi, hdr, hr⟩ := id F
  unfold wpX_setVar
  rcases pk_ix v1 (n := V) (by omega) with h | h | ⟨j, hj, rfl⟩
  · refine xw_var0 (Or.inl h) (br_t rfl ?_)
    unfold wpY_setVar
    exact yw_var0 (Or.inl h) (br_f (by decide) ⟨rfl, zz_in F⟩)
  · refine xw_var0 (Or.inr h) (br_t rfl ?_)
    unfold wpY_setVar
    exact yw_var0 (Or.inr h) (br_f (by decide) ⟨rfl, zz_in F⟩)
  have ej : (nI j).toNatClampNeg = j := nI_clamp (by omega)
  have ij : vp_in (nI j) 8 := vp_in_nI (by omega) (by omega)
  have hi' : ∀ v, V ≤ v → v < 8 → upd a_initial j v2 v = 0 := fun v h1 h2 => by rw [pk_un (by omega)]; exact hi v h1 h2
  refine xw_var1 hj hV (br_f (by decide) (And.intro ij (nm_r (e' := upd a_initial j v2) (by rw [ej]) (And.intro ij (br_c (fun g => ?_) (fun g => ?_))))))
  · rw [ej] at g
    unfold wpY_setVar
    refine yw_var1 hj hV (br_t rfl (And.intro ij (nm_r (e' := upd a_initial j v2) (by rw [ej]) (yw_dist hs (by omega) hV hL hj (fun r hr' => ?_)))))
    rw [di_uniq hr' (hd j hj)]
    refine br_t g ⟨rfl, zz_in ⟨F.1, hs, hu, hd, hi', hdr, ?_⟩⟩
    rcases hr with hr | ⟨r1, n, en, eg, hres, hin, hrest⟩
    · exact Or.inl hr
    · refine Or.inr ⟨r1, n, en, eg, hres, fun v hv hD => ?_, hrest⟩
      rw [pk_un (fun z => by rw [z] at hD; rw [show pu_D a_dist j = true from decide_eq_true g] at hD; exact absurd hD (by decide))]
      exact hin v hv hD
  · rw [ej] at g
    refine xw_dropK (F_hd F) (fun rs fk pc e1 e2 e3 => ?_)
    unfold wpY_setVar
    refine yw_var1 hj hV (br_t rfl (And.intro ij (nm_r (e' := upd a_initial j v2) (by rw [ej]) (yw_dist hs (by omega) hV hL hj (fun r hr' => ?_)))))
    rw [di_uniq hr' (hd j hj)]
    exact br_f g (yw_drop ⟨rfl, zz_dr ⟨⟨hV2, hV⟩, ⟨hB2, hB⟩, ⟨hL1, hL⟩, ⟨hQ4, hQ⟩, hC⟩ hs hu hd hi' hdr e1 e2 e3⟩)
theorem i_vc_mark {k : Nat} {u : SX} {v : SY} (I : i_Rel k u v) (hk : k + 5 ≤ 2564) (v1 : Int32) (v2 : Int32) : wpX_mark (fun r u' => wpY_mark (fun r' v' => r' = r ∧ i_Rel (k + 5) u' v') v v1 (lw_bz v2)) u v1 (lw_bz v2) := by
  refine zz_el (P := fun u v => wpX_mark (fun r u' => wpY_mark (fun r' v' => r' = r ∧ i_Rel (k + 5) u' v') v v1 (lw_bz v2)) u v1 (lw_bz v2)) I ?_
  intro V B L Q C sz f_residualMachine f_directMachine f_work f_opMove f_opOut f_countCap f_residual f_found f_codeSize a_stmt a_stmtCount a_term a_rom a_initial a_marked a_uses a_dist a_ptLabel a_ptKind a_ptFirst a_ptSecond a_before a_after a_exitOf a_head a_rankOf a_byRank a_codeStart a_codeEnd a_codeOp a_codeDst a_codeMode a_codeX a_codeY a_values a_status a_result a_forks a_outCount a_output a_place g_points g_dyn g_at b_code b_pLabel b_pVal b_result b_forks b_outs b_val F
  obtain ⟨⟨⟨hV2, hV⟩, ⟨hB2, hB⟩, ⟨hL1, hL⟩, ⟨hQ4, hQ⟩, hC⟩, hs, hu, hd, hi, hdr, hr⟩ := id F
  unfold wpX_mark
  rcases pk_ix v1 (n := V) (by omega) with h | h | ⟨j, hj, rfl⟩
  · refine xw_var0 (Or.inl h) (br_t rfl ?_)
    unfold wpY_mark
    exact yw_var0 (Or.inl h) (br_f (by decide) ⟨rfl, zz_in F⟩)
  · refine xw_var0 (Or.inr h) (br_t rfl ?_)
    unfold wpY_mark
    exact yw_var0 (Or.inr h) (br_f (by decide) ⟨rfl, zz_in F⟩)
  have ej : (nI j).toNatClampNeg = j := nI_clamp (by omega)
  have ij : vp_in (nI j) 8 := vp_in_nI (by omega) (by omega)
  refine xw_var1 hj hV (br_f (by decide) (And.intro ij (nm_r (e' := upd a_marked j (vp_nar .boolean (lw_bz v2))) (by rw [ej]) ?_)))
  refine xw_analyse (dep := pu_dep sz b_code) (by omega) hV (us_pd (fun l hl => Nat.le_trans (sr_sz hs hl) hL) hu) (fun a_dist' hdist => xw_dropK (F_hd F) (fun rs fk pc e1 e2 e3 => ?_))
  unfold wpY_mark
  refine yw_var1 hj hV (br_t rfl (And.intro ij (nm_r (e' := upd a_marked j (vp_nar .boolean (lw_bz v2))) (by rw [ej]) (yw_drop ⟨rfl, ?_⟩))))
  exact zz_dr ⟨⟨hV2, hV⟩, ⟨hB2, hB⟩, ⟨hL1, hL⟩, ⟨hQ4, hQ⟩, hC⟩ hs hu hdist hi hdr e1 e2 e3
end
section
section
variable {f_residualMachine f_directMachine f_work f_opMove f_opOut f_countCap f_residual f_found f_codeSize : Int32} {a_stmt a_stmtCount a_term a_rom a_initial a_marked a_uses a_dist a_ptLabel a_ptKind a_ptFirst a_ptSecond a_before a_after a_exitOf a_head a_rankOf a_byRank a_codeStart a_codeEnd a_codeOp a_codeDst a_codeMode a_codeX a_codeY a_values a_status a_result a_forks a_outCount a_output a_place : Nat → Int32} {k V B L Q C : Nat} {sz : Nat → Nat} {g_points g_dyn g_at p1 : Int32} {b_code b_pLabel b_pVal b_result b_forks b_outs b_val : Nat → Int32}
theorem zz_ip (F : pu_F V B L Q C sz f_residual f_found a_stmt a_stmtCount a_term a_rom a_initial a_marked a_uses a_dist a_ptLabel a_ptKind a_ptFirst a_ptSecond a_before a_after a_exitOf a_head a_rankOf a_byRank a_codeStart a_codeEnd a_codeOp a_codeDst a_codeMode a_codeX a_codeY a_values a_status a_result a_forks a_outCount a_output a_place g_points g_dyn g_at b_code b_pLabel b_pVal b_result b_forks b_outs b_val) (e3 : a_place 1 = p1) : i_Rel k ((nI V), (nI B), (nI L), (nI Q), f_residualMachine, f_directMachine, f_work, f_opMove, f_opOut, f_countCap, (nI C), f_residual, f_found, f_codeSize, a_stmt, a_stmtCount, a_term, a_rom, a_initial, a_marked, a_uses, a_dist, a_ptLabel, a_ptKind, a_ptFirst, a_ptSecond, a_before, a_after, a_exitOf, a_head, a_rankOf, a_byRank, a_codeStart, a_codeEnd, a_codeOp, a_codeDst, a_codeMode, a_codeX, a_codeY, a_values, a_status, a_result, a_forks, a_outCount, a_output, a_place) ((nI V), (nI B), (nI L), (nI Q), (nI C), g_points, g_dyn, g_at, p1, b_code, a_stmtCount, a_rom, a_initial, a_marked, b_pLabel, b_pVal, a_status, b_result, b_forks, b_outs, a_output, b_val) := by
  subst e3
  exact zz_in F
/-- dependants of dynamic variables are dynamic -/
theorem F_cg (F : pu_F V B L Q C sz f_residual f_found a_stmt a_stmtCount a_term a_rom a_initial a_marked a_uses a_dist a_ptLabel a_ptKind a_ptFirst a_ptSecond a_before a_after a_exitOf a_head a_rankOf a_byRank a_codeStart a_codeEnd a_codeOp a_codeDst a_codeMode a_codeX a_codeY a_values a_status a_result a_forks a_outCount a_output a_place g_points g_dyn g_at b_code b_pLabel b_pVal b_result b_forks b_outs b_val) : pu_cg V b_code sz (pu_D a_dist) := by
  intro l i hl hi d u hd hu h1 h2 h3 hD
  have H := F.2.2.2.1
  exact D_iff.mp (di_cong hd hu (H d hd) (H u hu) ⟨l, i, hl, hi, h1, h2, h3⟩ (D_iff.mpr hD))
end
theorem i_vc_start {k : Nat} {u : SX} {v : SY} (I : i_Rel k u v) (hk : k + 5 ≤ 2564) : wpX_start (fun r u' => wpY_start (fun r' v' => r' = r ∧ i_Rel (k + 5) u' v') v) u := by
  refine zz_el (P := fun u v => wpX_start (fun r u' => wpY_start (fun r' v' => r' = r ∧ i_Rel (k + 5) u' v') v) u) I ?_
  intro V B L Q C sz f_residualMachine f_directMachine f_work f_opMove f_opOut f_countCap f_residual f_found f_codeSize a_stmt a_stmtCount a_term a_rom a_initial a_marked a_uses a_dist a_ptLabel a_ptKind a_ptFirst a_ptSecond a_before a_after a_exitOf a_head a_rankOf a_byRank a_codeStart a_codeEnd a_codeOp a_codeDst a_codeMode a_codeX a_codeY a_values a_status a_result a_forks a_outCount a_output a_place g_points g_dyn g_at b_code b_pLabel b_pVal b_result b_forks b_outs b_val F
  obtain ⟨⟨⟨hV2, hV⟩, ⟨hB2, hB⟩, ⟨hL1, hL⟩, ⟨hQ4, hQ⟩, hC⟩, hs, hu, hd, hi, hdr, hr⟩ := id F
  rcases hr with ⟨r0, g0, _⟩ | ⟨r1, n, en, eg, hres, hin, hoc, hma⟩
  · exact br_t r0 (br_t g0 ⟨rfl, zz_in F⟩)
  · have hn := hres.1
    refine br_f (by rw [r1]; decide) (xw_begin (m := 0) hV (by omega) (fun xv h1 h2 => nm_e ?_))
    refine br_f (by rw [eg]; exact nI_ne0 (by omega) (by omega)) (yw_begin (m := 0) (by omega) (fun vl h3 h4 => nm_e ⟨rfl, zz_ip (sz := sz) ?_ (pk_un (by decide))⟩))
    have o1 : upd a_outCount 0 0 1 = a_outCount 1 := pk_un (by decide)
    have s1 : upd a_status 0 1 1 = a_status 1 := pk_un (by decide)
    have s0 : upd a_status 0 1 0 = 1 := pk_us
    refine ⟨F.1, hs, hu, hd, hi, ⟨fun v hv => ?_, ?_, ?_, ?_, ?_, ?_⟩, Or.inr ⟨r1, n, en, eg, hres, hin, ?_, Or.inr ⟨Or.inl s0, 0, by omega, pk_us, rfl, ?_, ?_, ?_, fun v hv hD => ?_, fun v hv hD => ?_, fun _ => ?_⟩⟩⟩
    · rw [h2 _ (by omega), h4 _ (by omega)]; exact hdr.1 v hv
    · rw [pk_un (by decide), pk_un (by decide)]; exact hdr.2.1
    · rw [pk_un (by decide), pk_un (by decide)]; exact hdr.2.2.1
    · rw [o1, pk_un (by decide)]; exact hdr.2.2.2.1
    · rw [o1]; exact hdr.2.2.2.2.1
    · rw [s1, o1]; exact hdr.2.2.2.2.2
    · rw [pk_us]; exact ⟨0, by omega, rfl⟩
    · rw [pk_us, pk_us]
    · rw [pk_us, pk_us]
    · rw [pk_us, pk_us]
    · have a := h1 v hv
      have b := h3 v (by omega)
      rw [Nat.zero_mul, Nat.zero_add] at a b
      rw [a, b]
    · have b := h3 v (by omega)
      rw [Nat.zero_mul, Nat.zero_add] at b
      rw [s0, if_neg (by decide), b, Nat.zero_mul, Nat.zero_add]
      exact (hin v hv hD).symm
    · rcases hres.2.2.2.2.2.2.1 0 (by omega) with y | y
      · rw [y.1]; decide
      · exact absurd (Or.inl rfl) y.2
theorem i_vc_run {k : Nat} {u : SX} {v : SY} (I : i_Rel k u v) (hk : k + 5 ≤ 2564) (v1 : Int32) : wpX_run (fun r u' => wpY_run (fun r' v' => r' = r ∧ i_Rel (k + 5) u' v') v v1) u v1 := by
  refine zz_el (P := fun u v => wpX_run (fun r u' => wpY_run (fun r' v' => r' = r ∧ i_Rel (k + 5) u' v') v v1) u v1) I ?_
  intro V B L Q C sz f_residualMachine f_directMachine f_work f_opMove f_opOut f_countCap f_residual f_found f_codeSize a_stmt a_stmtCount a_term a_rom a_initial a_marked a_uses a_dist a_ptLabel a_ptKind a_ptFirst a_ptSecond a_before a_after a_exitOf a_head a_rankOf a_byRank a_codeStart a_codeEnd a_codeOp a_codeDst a_codeMode a_codeX a_codeY a_values a_status a_result a_forks a_outCount a_output a_place g_points g_dyn g_at b_code b_pLabel b_pVal b_result b_forks b_outs b_val F
  obtain ⟨⟨⟨hV2, hV⟩, ⟨hB2, hB⟩, ⟨hL1, hL⟩, ⟨hQ4, hQ⟩, hC⟩, hs, hu, hd, hi, hdr, hr⟩ := id F
  rcases hr with ⟨r0, g0, _⟩ | ⟨r1, n, en, eg, hres, hin, hoc, hma⟩
  · exact br_t r0 (br_t g0 ⟨rfl, zz_in F⟩)
  have hn := hres.1
  have hr1 : ¬ f_residual = 0 := by rw [r1]; decide
  have hp0 : ¬ g_points = 0 := by rw [eg]; exact nI_ne0 (by omega) (by omega)
  rcases hma with ⟨s0, _⟩ | ⟨hs0, q, hq, p1, p2, p3, p4, p5, p6, p7, p8⟩
  · exact br_f hr1 (nm_e (br_t s0 (br_f hp0 (br_t s0 ⟨rfl, zz_in F⟩))))
  have hz0 : ¬ a_status 0 = 0 := by rcases hs0 with h | h | h | h | h <;> rw [h] <;> decide
  by_cases hend : a_status 0 = 3 ∨ a_status 0 = 4 ∨ a_status 0 = 5
  · have hy : ∀ r, r = a_status 0 → wpY_run (fun r' v' => r' = r ∧ i_Rel (k + 5) ((nI V), (nI B), (nI L), (nI Q), f_residualMachine, f_directMachine, f_work, f_opMove, f_opOut, f_countCap, (nI C), f_residual, f_found, f_codeSize, a_stmt, a_stmtCount, a_term, a_rom, a_initial, a_marked, a_uses, a_dist, a_ptLabel, a_ptKind, a_ptFirst, a_ptSecond, a_before, a_after, a_exitOf, a_head, a_rankOf, a_byRank, a_codeStart, a_codeEnd, a_codeOp, a_codeDst, a_codeMode, a_codeX, a_codeY, a_values, a_status, a_result, a_forks, a_outCount, a_output, a_place) v') ((nI V), (nI B), (nI L), (nI Q), (nI C), g_points, g_dyn, g_at, (a_place 1), b_code, a_stmtCount, a_rom, a_initial, a_marked, b_pLabel, b_pVal, a_status, b_result, b_forks, b_outs, a_output, b_val) v1 := by
      intro r er
      refine br_f hp0 (br_f hz0 (br_f ?_ ⟨er.symm, zz_in F⟩))
      rcases hend with h | h | h <;> rw [h] <;> decide
    refine br_f hr1 (nm_e (br_f hz0 (br_c (fun g => hy _ rfl) (fun g3 => br_c (fun g => hy _ rfl) (fun g4 => br_c (fun g => hy _ rfl) (fun g5 => ?_))))))
    rcases hend with h | h | h
    · exact absurd h g3
    · exact absurd h g4
    · exact absurd h g5
  have h12 : a_status 0 = 1 ∨ a_status 0 = 2 := by
    rcases hs0 with h | h | h | h | h
    · exact Or.inl h
    · exact Or.inr h
    · exact absurd (Or.inl h) hend
    · exact absurd (Or.inr (Or.inl h)) hend
    · exact absurd (Or.inr (Or.inr h)) hend
  have hlt3 : a_status 0 < 3 := by rcases h12 with h | h <;> rw [h] <;> decide
  refine br_f hr1 (nm_e (br_f hz0 (br_f (fun z => hend (Or.inl z)) (br_f (fun z => hend (Or.inr (Or.inl z))) (br_f (fun z => hend (Or.inr (Or.inr z))) ?_)))))
  by_cases hf : 1 ≤ v1
  rotate_left
  · exact br_f hf (br_f hp0 (br_f hz0 (br_t hlt3 (br_f hf ⟨rfl, zz_in F⟩))))
  have hcg := F_cg F
  -- both sides run with the same limit
  have main : ∀ (lim : Nat), 1 ≤ lim → lim ≤ 16 → (∀ (postY : Int32 → SY → Prop) m, wY_run_61 postY m (nI lim) 0 (nI V) (nI B) (nI L) (nI Q) (nI C) g_points g_dyn g_at (a_place 1) b_code a_stmtCount a_rom a_initial a_marked b_pLabel b_pVal a_status b_result b_forks b_outs a_output b_val → wpY_run postY ((nI V), (nI B), (nI L), (nI Q), (nI C), g_points, g_dyn, g_at, (a_place 1), b_code, a_stmtCount, a_rom, a_initial, a_marked, b_pLabel, b_pVal, a_status, b_result, b_forks, b_outs, a_output, b_val) v1) →
      ∃ n67, wX_run_67 (fun r u' => wpY_run (fun r' v' => r' = r ∧ i_Rel (k + 5) u' v') ((nI V), (nI B), (nI L), (nI Q), (nI C), g_points, g_dyn, g_at, (a_place 1), b_code, a_stmtCount, a_rom, a_initial, a_marked, b_pLabel, b_pVal, a_status, b_result, b_forks, b_outs, a_output, b_val) v1) (nI lim) n67 2 0 (nI V) (nI B) (nI L) (nI Q) f_residualMachine f_directMachine f_work f_opMove f_opOut f_countCap (nI C) f_residual f_found f_codeSize a_stmt a_stmtCount a_term a_rom a_initial a_marked a_uses a_dist a_ptLabel a_ptKind a_ptFirst a_ptSecond a_before a_after a_exitOf a_head a_rankOf a_byRank a_codeStart a_codeEnd a_codeOp a_codeDst a_codeMode a_codeX a_codeY a_values a_status a_result a_forks a_outCount a_output a_place := by
    intro lim hl1 hl16 hY
    have hST : ∀ v, v < V → pu_D a_dist v = false → b_val v = b_pVal (q * 8 + v) := fun v hv hD => by
      have := p7 v hv hD
      rw [if_neg (fun z => hend (by rcases z with z | z; exact Or.inl z; exact Or.inr (Or.inl z)))] at this
      exact this
    subst eg p2
    refine ⟨lim + 1, lk_run (YG := fun postY => wpY_run postY ((nI V), (nI B), (nI L), (nI Q), (nI C), (nI n), g_dyn, (nI q), (a_place 1), b_code, a_stmtCount, a_rom, a_initial, a_marked, b_pLabel, b_pVal, a_status, b_result, b_forks, b_outs, a_output, b_val) v1) (D := pu_D a_dist) (n := n) (b_val := b_val) (b_outs := b_outs) (b_result := b_result) (b_forks := b_forks) hl16 hs hV hL hB hcg (fun v _ => D_iff) hres p3 ?_ lim 0 (by omega) (by omega) q ((fun v => b_val v), b_outs 0, a_output) a_values a_outCount a_output a_place a_forks b_forks 0 (by omega) hq (p8 h12) p1 rfl p4 rfl rfl (by rw [← p5]; exact hoc) hST ⟨p6, fun _ _ => rfl, p5, fun _ _ => rfl, rfl⟩ (fun postY m K => hY postY m (K b_val b_outs ⟨fun _ _ => rfl, fun _ _ _ => rfl, rfl, fun _ _ => rfl, rfl⟩)) _ (by omega)⟩
    intro r q' w xv oc ou pc rs fk rsY fkY hr' hq' c0 c1 hh e1 e2 e3 e4 e5 e6 hocw hst hxm hYY
    refine hYY _ (fun vl os hym => ⟨rfl, zz_ip (sz := sz) ?_ c1⟩)
    have s1 : upd a_status 0 r 1 = a_status 1 := pk_un (by decide)
    have s0 : upd a_status 0 r 0 = r := pk_us
    refine ⟨F.1, hs, hu, hd, hi, ⟨fun v hv => ?_, ?_, ?_, ?_, ?_, ?_⟩, Or.inr ⟨r1, n, en, rfl, hres, hin, ?_, Or.inr ⟨?_, q', hq', c0, rfl, e1, e4, ?_, fun v hv hD => ?_, fun v hv hD => ?_, fun z => ?_⟩⟩⟩
    · rw [hxm.2.1 _ (by omega), hym.2.1 _ (by omega) (by omega)]; exact hdr.1 v hv
    · rw [e2, e3]; exact hdr.2.1
    · rw [e5, e6]; exact hdr.2.2.1
    · rw [hxm.2.2.2.1 1 (by decide), hym.2.2.2.1 1 (by decide)]; exact hdr.2.2.2.1
    · rw [hxm.2.2.2.1 1 (by decide)]; exact hdr.2.2.2.2.1
    · rw [s1, hxm.2.2.2.1 1 (by decide)]; exact hdr.2.2.2.2.2
    · rw [hxm.2.2.1]; exact hocw
    · rw [s0]; rcases hr' with h | h | h | h
      · exact Or.inr (Or.inl h)
      · exact Or.inr (Or.inr (Or.inl h))
      · exact Or.inr (Or.inr (Or.inr (Or.inl h)))
      · exact Or.inr (Or.inr (Or.inr (Or.inr h)))
    · rw [hxm.2.2.1, hym.2.2.1]
    · rw [hxm.1 v hv hD, hym.1 v (by omega)]
    · rw [s0, hym.1 v (by omega)]; exact hst v hv hD
    · rw [s0] at z
      rcases z with z | z
      · rcases hr' with h | h | h | h <;> rw [h] at z <;> exact absurd z (by decide)
      · exact hh z
  by_cases h16 : v1 ≤ 16
  · obtain ⟨lim, hlim, rfl⟩ := nI_of2 (M := 16) (n := 16) (by decide) (ar_nlt (Int32.le_trans (by decide) hf)) h16
    have hl1 : 1 ≤ lim := (nI_leI (a := 1) (by omega) (by omega)).mp hf
    exact br_t hf (br_t h16 (main lim hl1 hlim (fun postY m K => br_f hp0 (br_f hz0 (br_t hlt3 (br_t hf (br_t h16 ⟨m, K⟩)))))))
  · exact br_t hf (br_f h16 (main 16 (by omega) (by omega) (fun postY m K => br_f hp0 (br_f hz0 (br_t hlt3 (br_t hf (br_f h16 ⟨m, K⟩)))))))
end
section
theorem has_D {V : Nat} {mk dist : Nat → Int32} {dep : Nat → Nat → Prop} {s : Int32} (hV : V ≤ 8) (hd : ∀ v, v < V → pu_dist V mk dep v (dist v)) (h : ∀ v, v < 8 → (pu_has s (nI v) = true ↔ ∃ k, pu_lev V mk dep k v)) : ∀ v, v < V → pu_has s (nI v) = pu_D dist v := by
  intro v hv
  have a := h v (by omega)
  have b := di_pos (hd v hv)
  by_cases z : 0 ≤ dist v
  · rw [show pu_D dist v = true from decide_eq_true z]; exact a.mpr (b.mp z)
  · rw [show pu_D dist v = false from decide_eq_false z]; exact Bool.eq_false_iff.mpr (fun y => z (b.mpr (a.mp y)))
theorem i_vc_direct {k : Nat} {u : SX} {v : SY} (I : i_Rel k u v) (hk : k + 5 ≤ 2564) (v1 : Int32) : wpX_direct (fun r u' => wpY_direct (fun r' v' => r' = r ∧ i_Rel (k + 5) u' v') v v1) u v1 := by
  refine zz_el (P := fun u v => wpX_direct (fun r u' => wpY_direct (fun r' v' => r' = r ∧ i_Rel (k + 5) u' v') v v1) u v1) I ?_
  intro V B L Q C sz f_residualMachine f_directMachine f_work f_opMove f_opOut f_countCap f_residual f_found f_codeSize a_stmt a_stmtCount a_term a_rom a_initial a_marked a_uses a_dist a_ptLabel a_ptKind a_ptFirst a_ptSecond a_before a_after a_exitOf a_head a_rankOf a_byRank a_codeStart a_codeEnd a_codeOp a_codeDst a_codeMode a_codeX a_codeY a_values a_status a_result a_forks a_outCount a_output a_place g_points g_dyn g_at b_code b_pLabel b_pVal b_result b_forks b_outs b_val F
  obtain ⟨⟨⟨hV2, hV⟩, ⟨hB2, hB⟩, ⟨hL1, hL⟩, ⟨hQ4, hQ⟩, hC⟩, hs, hu, hd, hi, hdr, hr⟩ := id F
  by_cases hf : 1 ≤ v1
  rotate_left
  · exact br_f hf (br_f hf ⟨rfl, zz_in F⟩)
  have main : ∀ (lim : Nat), 1 ≤ lim → lim ≤ 512 → (∀ (postY : Int32 → SY → Prop), wY_direct_21 postY (nI lim) (nI V) (nI B) (nI L) (nI Q) (nI C) g_points g_dyn g_at (a_place 1) b_code a_stmtCount a_rom a_initial a_marked b_pLabel b_pVal a_status b_result b_forks b_outs a_output b_val → wpY_direct postY ((nI V), (nI B), (nI L), (nI Q), (nI C), g_points, g_dyn, g_at, (a_place 1), b_code, a_stmtCount, a_rom, a_initial, a_marked, b_pLabel, b_pVal, a_status, b_result, b_forks, b_outs, a_output, b_val) v1) →
      wX_direct_21 (fun r u' => wpY_direct (fun r' v' => r' = r ∧ i_Rel (k + 5) u' v') ((nI V), (nI B), (nI L), (nI Q), (nI C), g_points, g_dyn, g_at, (a_place 1), b_code, a_stmtCount, a_rom, a_initial, a_marked, b_pLabel, b_pVal, a_status, b_result, b_forks, b_outs, a_output, b_val) v1) (nI lim) (nI V) (nI B) (nI L) (nI Q) f_residualMachine f_directMachine f_work f_opMove f_opOut f_countCap (nI C) f_residual f_found f_codeSize a_stmt a_stmtCount a_term a_rom a_initial a_marked a_uses a_dist a_ptLabel a_ptKind a_ptFirst a_ptSecond a_before a_after a_exitOf a_head a_rankOf a_byRank a_codeStart a_codeEnd a_codeOp a_codeDst a_codeMode a_codeX a_codeY a_values a_status a_result a_forks a_outCount a_output a_place := by
    intro lim hl1 hl512 hY
    unfold wX_direct_21
    refine xw_begin (m := 1) hV (by omega) (fun xv h1 h2 => ⟨lim + 1, ?_⟩)
    have hdm : ∀ (va xv oa oc : Nat → Int32), (∀ v, v < V → xv (1 * 8 + v) = a_initial v) → (∀ j, (j < 1 * 8 ∨ 1 * 8 + 8 ≤ j) → xv j = va j) → oc = upd oa 1 0 → pu_dm V va oa xv oc a_output ((fun v => a_initial v), 0, a_output) := by
      intro va xv oa oc h1 h2 h3
      refine ⟨fun v hv => ?_, fun j hj => h2 j (by omega), ?_, fun j hj => ?_, rfl⟩
      · have := h1 v hv; rw [Nat.one_mul] at this; exact this
      · rw [h3, pk_us]
      · rw [h3, pk_un hj]
    refine lk_direct (YG := fun postY => wpY_direct postY ((nI V), (nI B), (nI L), (nI Q), (nI C), g_points, g_dyn, g_at, (a_place 1), b_code, a_stmtCount, a_rom, a_initial, a_marked, b_pLabel, b_pVal, a_status, b_result, b_forks, b_outs, a_output, b_val) v1) (D := pu_D a_dist) (a_dist := a_dist) (b_status := a_status) (b_pVal := b_pVal) (b_pLabel := b_pLabel) (b_init := a_initial) (b_marked := a_marked) (g_cursor := nI C) (g_points := g_points) (g_dyn := g_dyn) (g_at := g_at) (a_values := a_values) (a_outCount := a_outCount) (a_result := upd a_result 1 0) (a_forks := a_forks) (a_place := a_place) (b_val := b_val) (b_outs := b_outs) (b_result := upd b_result 1 0) (b_forks := b_forks) hl512 hs hV hL hB (fun v _ => D_iff) ?_ lim 0 (by omega) 0 0 ((fun v => a_initial v), 0, a_output) xv (upd a_outCount 1 0) a_output (upd a_place 1 0) (upd a_forks 1 0) (upd b_forks 1 0) (by omega) (by omega) pk_us (pk_un (by decide)) (by rw [pk_us, pk_us]) pk_us pk_us (pk_un (by decide)) (pk_un (by decide)) ⟨0, by omega, rfl⟩ (hdm _ _ _ _ h1 h2 rfl) (fun postY m K => hY postY ?_) _ (by omega)
    · intro r l w xv oc ou pc rs fk rsY fkY hr' hl c1 c0 e1 e2 e3 e4 e5 e6 hocw hxm hYY
      refine hYY _ (fun vl os hym => ⟨rfl, zz_ip (sz := sz) ?_ c1⟩)
      have s1 : upd a_status 1 r 1 = r := pk_us
      have s0 : upd a_status 1 r 0 = a_status 0 := pk_un (by decide)
      have r0 : rs 0 = a_result 0 := e2.trans (pk_un (by decide))
      have r0y : rsY 0 = b_result 0 := e3.trans (pk_un (by decide))
      refine ⟨F.1, hs, hu, hd, hi, ⟨fun v hv => ?_, e1, e4, ?_, ?_, ?_⟩, ?_⟩
      · rw [hxm.1 v hv, hym.1 v hv]
      · rw [hxm.2.2.1, hym.2.2.1]
      · rw [hxm.2.2.1]; exact hocw
      · rw [s1]; intro z; rcases hr' with h | h | h <;> rw [h] at z <;> exact absurd z (by decide)
      · rcases hr with ⟨a, b, c, d⟩ | ⟨r1, n, en, eg, hres, hin, hoc, hma⟩
        · exact Or.inl ⟨a, b, s0.trans c, (hxm.2.2.2.1 0 (by decide)).trans d⟩
        · refine Or.inr ⟨r1, n, en, eg, hres, hin, by rw [hxm.2.2.2.1 0 (by decide)]; exact hoc, ?_⟩
          rw [s0]
          rcases hma with ⟨a, b⟩ | ⟨a, q, hq, p1, p2, p3, p4, p5, p6, p7, p8⟩
          · exact Or.inl ⟨a, (hxm.2.2.2.1 0 (by decide)).trans b⟩
          · refine Or.inr ⟨a, q, hq, c0.trans p1, p2, r0.trans (p3.trans r0y.symm), e5.trans (p4.trans e6.symm), ?_, fun v hv hD => ?_, fun v hv hD => ?_, p8⟩
            · rw [hxm.2.2.2.1 0 (by decide), hym.2.2.2.1 0 (by decide)]; exact p5
            · rw [hxm.2.1 v (by omega), hym.2.1 v (by omega)]; exact p6 v hv hD
            · rw [hym.2.1 v (by omega)]; exact p7 v hv hD
    · unfold wY_direct_21
      refine yw_dset hs (by omega) hV hL (fun s hs' => yw_begin (m := 1) (by omega) (fun vl h3 h4 => ⟨m, ?_⟩))
      exact K s vl (upd b_outs 1 0) (has_D hV hd hs') (hdm _ _ _ _ (fun v hv => h3 v (by omega)) h4 rfl)
  by_cases h16 : v1 ≤ 512
  · obtain ⟨lim, hlim, rfl⟩ := nI_of2 (M := 512) (n := 512) (by decide) (ar_nlt (Int32.le_trans (by decide) hf)) h16
    have hl1 : 1 ≤ lim := (nI_leI (a := 1) (by omega) (by omega)).mp hf
    exact br_t hf (br_t h16 (main lim hl1 hlim (fun postY K => br_t hf (br_t h16 K))))
  · exact br_t hf (br_f h16 (main 512 (by omega) (by omega) (fun postY K => br_t hf (br_f h16 K))))
end
section
section
variable {f_residualMachine f_directMachine f_work f_opMove f_opOut f_countCap f_residual f_found f_codeSize : Int32} {a_stmt a_stmtCount a_term a_rom a_initial a_marked a_uses a_dist a_ptLabel a_ptKind a_ptFirst a_ptSecond a_before a_after a_exitOf a_head a_rankOf a_byRank a_codeStart a_codeEnd a_codeOp a_codeDst a_codeMode a_codeX a_codeY a_values a_status a_result a_forks a_outCount a_output a_place : Nat → Int32} {V B L Q C : Nat} {sz : Nat → Nat} {g_points g_dyn g_at : Int32} {b_code b_pLabel b_pVal b_result b_forks b_outs b_val w : Nat → Int32}
theorem F_val (hw : ∀ j, j < 16 → w j = b_val j) (F : pu_F V B L Q C sz f_residual f_found a_stmt a_stmtCount a_term a_rom a_initial a_marked a_uses a_dist a_ptLabel a_ptKind a_ptFirst a_ptSecond a_before a_after a_exitOf a_head a_rankOf a_byRank a_codeStart a_codeEnd a_codeOp a_codeDst a_codeMode a_codeX a_codeY a_values a_status a_result a_forks a_outCount a_output a_place g_points g_dyn g_at b_code b_pLabel b_pVal b_result b_forks b_outs b_val) : pu_F V B L Q C sz f_residual f_found a_stmt a_stmtCount a_term a_rom a_initial a_marked a_uses a_dist a_ptLabel a_ptKind a_ptFirst a_ptSecond a_before a_after a_exitOf a_head a_rankOf a_byRank a_codeStart a_codeEnd a_codeOp a_codeDst a_codeMode a_codeX a_codeY a_values a_status a_result a_forks a_outCount a_output a_place g_points g_dyn g_at b_code b_pLabel b_pVal b_result b_forks b_outs w := by
  obtain ⟨⟨⟨hV2, hV⟩, hc⟩, hs, hu, hd, hi, hdr, hr⟩ := F
  refine ⟨⟨⟨hV2, hV⟩, hc⟩, hs, hu, hd, hi, ⟨fun v hv => by rw [hw _ (by omega)]; exact hdr.1 v hv, hdr.2⟩, ?_⟩
  rcases hr with hr | ⟨r1, n, en, eg, hres, hin, hoc, hma⟩
  · exact Or.inl hr
  · refine Or.inr ⟨r1, n, en, eg, hres, hin, hoc, ?_⟩
    rcases hma with a | ⟨a, q, hq, p1, p2, p3, p4, p5, p6, p7, p8⟩
    · exact Or.inl a
    · exact Or.inr ⟨a, q, hq, p1, p2, p3, p4, p5, fun v hv hD => by rw [hw _ (by omega)]; exact p6 v hv hD, fun v hv hD => by rw [hw _ (by omega)]; exact p7 v hv hD, p8⟩
end
theorem i_vc_pointFact {k : Nat} {u : SX} {v : SY} (I : i_Rel k u v) (hk : k + 5 ≤ 2564) (v1 : Int32) (v2 : Int32) : wpX_pointFact (fun r => wpY_pointFact (fun r' v' => r' = r ∧ i_Rel (k + 5) u v') v v1 v2) u v1 v2 := by
  refine zz_el (P := fun u v => wpX_pointFact (fun r => wpY_pointFact (fun r' v' => r' = r ∧ i_Rel (k + 5) u v') v v1 v2) u v1 v2) I ?_
  intro V B L Q C sz f_residualMachine f_directMachine f_work f_opMove f_opOut f_countCap f_residual f_found f_codeSize a_stmt a_stmtCount a_term a_rom a_initial a_marked a_uses a_dist a_ptLabel a_ptKind a_ptFirst a_ptSecond a_before a_after a_exitOf a_head a_rankOf a_byRank a_codeStart a_codeEnd a_codeOp a_codeDst a_codeMode a_codeX a_codeY a_values a_status a_result a_forks a_outCount a_output a_place g_points g_dyn g_at b_code b_pLabel b_pVal b_result b_forks b_outs b_val F
  obtain ⟨⟨⟨hV2, hV⟩, ⟨hB2, hB⟩, ⟨hL1, hL⟩, ⟨hQ4, hQ⟩, hC⟩, hs, hu, hd, hi, hdr, hr⟩ := id F
  unfold wpX_pointFact
  have Z := fun w hw => zz_in (k := k + 5) (f_residualMachine := f_residualMachine) (f_directMachine := f_directMachine) (f_work := f_work) (f_opMove := f_opMove) (f_opOut := f_opOut) (f_countCap := f_countCap) (f_codeSize := f_codeSize) (F_val (w := w) hw F)
  have Z0 := Z b_val (fun _ _ => rfl)
  rcases hr with ⟨r0, g0, _⟩ | ⟨r1, n, rfl, rfl, hres, _, _, _⟩
  · refine br_t r0 (br_t rfl ?_)
    by_cases g : v1 < 0
    · exact br_t g ⟨rfl, Z0⟩
    · exact br_f g (br_t (by rw [g0]; exact ar_lt g) ⟨rfl, Z0⟩)
  have hn := hres.1.2
  have hr1 : ¬ f_residual = 0 := by rw [r1]; decide
  rcases pk_ix v1 (n := n) (by omega) with h | h | ⟨r, hrn, rfl⟩
  · exact br_f hr1 (br_t h (br_t rfl (br_t h ⟨rfl, Z0⟩)))
  · have h0 : ¬ v1 < 0 := ar_nlt (Int32.le_trans (nI_pos' (by omega)) h)
    exact br_f hr1 (br_f h0 (br_t h (br_t rfl (br_f h0 (br_t h ⟨rfl, Z0⟩)))))
  have h0 : ¬ nI r < 0 := nI_pos (by omega)
  have h1 : ¬ nI n ≤ nI r := nI_ge hrn (by omega)
  refine br_f hr1 (br_f h0 (br_f h1 (br_f (by decide) (br_c (fun g1 => ?_) (fun g1 => br_c (fun g2 => ?_) (fun g2 => ?_))))))
  · exact br_f h0 (br_f h1 (br_t g1 ⟨rfl, Z0⟩))
  rotate_left
  · exact br_f h0 (br_f h1 (br_f g1 (br_f g2 ⟨rfl, Z0⟩)))
  obtain ⟨f, hf, rfl⟩ := nI_of2 (M := 5) (n := 5) (by decide) g1 g2
  have hpt := hres.2.1.1
  obtain ⟨p, hp, hrk⟩ := rk_sur hpt.2.2 hrn
  obtain ⟨l, hl, el⟩ := hpt.1 p hp
  have hl16 : l < 16 := by omega
  have ecl : (nI l).toNatClampNeg = l := nI_clamp (by omega)
  have eb : a_byRank (nI r).toNatClampNeg = nI p := by rw [nI_clamp (by omega), ← hrk]; exact hres.2.2.2.2.1 p hp
  have ep : (nI p).toNatClampNeg = p := nI_clamp (by omega)
  have ip : vp_in (nI p) 32 := vp_in_nI (by omega) (by omega)
  have hdn := hres.2.2.1 p hp
  have hDY := hres.2.2.2.2.2.2.2.2
  have hF := fun q hq => (hres.2.2.1 q hq).2.2.1
  have hS := fun q hq => (hres.2.2.1 q hq).2.2.2
  -- the reference finds the same point
  have hy : ∀ (post : Int32 → Prop), post (nI p) → wpY_ranked post ((nI V), (nI B), (nI L), (nI Q), (nI C), (nI n), g_dyn, g_at, (a_place 1), b_code, a_stmtCount, a_rom, a_initial, a_marked, b_pLabel, b_pVal, a_status, b_result, b_forks, b_outs, a_output, b_val) (nI r) := by
    intro post K
    refine yw_ranked hn hV hrn hpt (fun p' hp' hrk' => ?_)
    rw [rk_inj hpt.2.2 p' p hp' hp (hrk'.trans hrk.symm)]
    exact K
  have hsc : ∀ (s : Bool) (x2 q : Int32) (post : Int32 → SY → Prop), (x2 = 0 ↔ s = false) → pu_sc V n b_code a_rom sz (pu_D a_dist) b_pLabel b_pVal p s q →
      (∀ w : Nat → Int32, (∀ j, j < 16 → w j = b_val j) → (q = -1 → post (-1) ((nI V), (nI B), (nI L), (nI Q), (nI C), (nI n), g_dyn, g_at, (a_place 1), b_code, a_stmtCount, a_rom, a_initial, a_marked, b_pLabel, b_pVal, a_status, b_result, b_forks, b_outs, a_output, w)) ∧ (∀ j, j < n → q = nI j → post (nI (pu_rk V n b_pLabel b_pVal j)) ((nI V), (nI B), (nI L), (nI Q), (nI C), (nI n), g_dyn, g_at, (a_place 1), b_code, a_stmtCount, a_rom, a_initial, a_marked, b_pLabel, b_pVal, a_status, b_result, b_forks, b_outs, a_output, w))) →
      wY_pointFact_101 post x2 (nI p) (nI V) (nI B) (nI L) (nI Q) (nI C) (nI n) g_dyn g_at (a_place 1) b_code a_stmtCount a_rom a_initial a_marked b_pLabel b_pVal a_status b_result b_forks b_outs a_output b_val := by
    intro s x2 q post hx hq K
    unfold wY_pointFact_101
    refine yw_succ (s := s) hs rfl hV hL hB hn hp hpt hDY hx hq (fun w hw => ?_)
    rcases hq with ⟨_, e⟩ | ⟨j, hj, e, _⟩
    · subst e; exact br_f ar_neg1 ((K w hw).1 rfl)
    · subst e; exact br_t (nI_pos' (by omega)) (yw_rank hn hV hj hpt ((K w hw).2 j hj rfl))
  have hxr : ∀ (q : Int32) (post : Int32 → Prop), (q = -1 → post (-1)) → (∀ j, j < n → q = nI j → post (nI (pu_rk V n b_pLabel b_pVal j))) → (q = -1 ∨ ∃ j, j < n ∧ q = nI j) → wpX_rankOrNone post ((nI V), (nI B), (nI L), (nI Q), f_residualMachine, f_directMachine, f_work, f_opMove, f_opOut, f_countCap, (nI C), f_residual, (nI n), f_codeSize, a_stmt, a_stmtCount, a_term, a_rom, a_initial, a_marked, a_uses, a_dist, a_ptLabel, a_ptKind, a_ptFirst, a_ptSecond, a_before, a_after, a_exitOf, a_head, a_rankOf, a_byRank, a_codeStart, a_codeEnd, a_codeOp, a_codeDst, a_codeMode, a_codeX, a_codeY, a_values, a_status, a_result, a_forks, a_outCount, a_output, a_place) q := by
    intro q post K1 K2 hq
    rcases hq with e | ⟨j, hj, e⟩
    · rw [e]; exact br_f ar_neg1 (K1 e)
    · rw [e]
      refine br_t (nI_pos' (by omega)) (And.intro (vp_in_nI (by omega) (by omega)) ?_)
      rw [nI_clamp (by omega), hres.2.2.2.1 j hj]
      exact K2 j hj e
  have hqc : ∀ s q, pu_sc V n b_code a_rom sz (pu_D a_dist) b_pLabel b_pVal p s q → (q = -1 ∨ ∃ j, j < n ∧ q = nI j) := by
    intro s q hq
    rcases hq with ⟨_, e⟩ | ⟨j, hj, e, _⟩
    · exact Or.inl e
    · exact Or.inr ⟨j, hj, e⟩
  refine And.intro (vp_in_nI (by omega) (by omega)) (nm_r eb (br_f g1 ?_))
  have ystart : ∀ (post : Int32 → SY → Prop), wpY_ranked (fun r_5 => (((nI f = 0 → (vp_in r_5 32 ∧ (post (b_pLabel r_5.toNatClampNeg) ((nI V), (nI B), (nI L), (nI Q), (nI C), (nI n), g_dyn, g_at, (a_place 1), b_code, a_stmtCount, a_rom, a_initial, a_marked, b_pLabel, b_pVal, a_status, b_result, b_forks, b_outs, a_output, b_val)))) ∧ (¬ nI f = 0 → (((nI f = 1 → (wpY_kind (fun r_128 => (post r_128 ((nI V), (nI B), (nI L), (nI Q), (nI C), (nI n), g_dyn, g_at, (a_place 1), b_code, a_stmtCount, a_rom, a_initial, a_marked, b_pLabel, b_pVal, a_status, b_result, b_forks, b_outs, a_output, b_val))) ((nI V), (nI B), (nI L), (nI Q), (nI C), (nI n), g_dyn, g_at, (a_place 1), b_code, a_stmtCount, a_rom, a_initial, a_marked, b_pLabel, b_pVal, a_status, b_result, b_forks, b_outs, a_output, b_val) r_5)) ∧ (¬ nI f = 1 → (((nI f = 4 → (wpY_doomed (fun r_104 u => ((r_104 = 0 → (post 0 u)) ∧ (¬ r_104 = 0 → (post 1 u)))) ((nI V), (nI B), (nI L), (nI Q), (nI C), (nI n), g_dyn, g_at, (a_place 1), b_code, a_stmtCount, a_rom, a_initial, a_marked, b_pLabel, b_pVal, a_status, b_result, b_forks, b_outs, a_output, b_val) r_5)) ∧ (¬ nI f = 4 → (((nI f = 5 → (wpY_head (fun r_80 u => ((r_80 = 0 → (post 0 u)) ∧ (¬ r_80 = 0 → (post 1 u)))) ((nI V), (nI B), (nI L), (nI Q), (nI C), (nI n), g_dyn, g_at, (a_place 1), b_code, a_stmtCount, a_rom, a_initial, a_marked, b_pLabel, b_pVal, a_status, b_result, b_forks, b_outs, a_output, b_val) r_5)) ∧ (¬ nI f = 5 → (((nI f = 3 → (wY_pointFact_101 post 1 r_5 (nI V) (nI B) (nI L) (nI Q) (nI C) (nI n) g_dyn g_at (a_place 1) b_code a_stmtCount a_rom a_initial a_marked b_pLabel b_pVal a_status b_result b_forks b_outs a_output b_val)) ∧ (¬ nI f = 3 → (wY_pointFact_101 post 0 r_5 (nI V) (nI B) (nI L) (nI Q) (nI C) (nI n) g_dyn g_at (a_place 1) b_code a_stmtCount a_rom a_initial a_marked b_pLabel b_pVal a_status b_result b_forks b_outs a_output b_val))))))))))))))))) ((nI V), (nI B), (nI L), (nI Q), (nI C), (nI n), g_dyn, g_at, (a_place 1), b_code, a_stmtCount, a_rom, a_initial, a_marked, b_pLabel, b_pVal, a_status, b_result, b_forks, b_outs, a_output, b_val) (nI r) → wpY_pointFact post ((nI V), (nI B), (nI L), (nI Q), (nI C), (nI n), g_dyn, g_at, (a_place 1), b_code, a_stmtCount, a_rom, a_initial, a_marked, b_pLabel, b_pVal, a_status, b_result, b_forks, b_outs, a_output, b_val) (nI r) (nI f) :=
    fun post K => br_f h0 (br_f h1 (br_f g1 (br_t g2 K)))
  rcases (show f = 0 ∨ f = 1 ∨ f = 2 ∨ f = 3 ∨ f = 4 ∨ f = 5 by omega) with e | e | e | e | e | e <;> subst e
  · -- label
    refine br_f (by decide) (br_t rfl (And.intro ip (ystart _ (hy _ (br_t rfl (And.intro ip ⟨?_, Z0⟩))))))
    rw [ep, hres.2.1.2.1 p hp]
  · -- kind
    refine br_f (by decide) (br_f (by decide) (br_t rfl (And.intro ip (ystart _ (hy _ (br_f (by decide) (br_t rfl (yw_kind hs rfl hV hL hl16 (by omega) el hDY ⟨?_, Z0⟩))))))))
    have := hdn.1
    rw [el, ecl] at this
    rw [ep]; exact this.symm
  · -- first successor
    refine br_f (by decide) (br_f (by decide) (br_f (by decide) (br_t rfl (And.intro ip ?_))))
    rw [ep]
    have go : ∀ x : Int32, (∀ w : Nat → Int32, (∀ j, j < 16 → w j = b_val j) → (a_ptFirst p = -1 → -1 = x ∧ i_Rel (k + 5) ((nI V), (nI B), (nI L), (nI Q), f_residualMachine, f_directMachine, f_work, f_opMove, f_opOut, f_countCap, (nI C), f_residual, (nI n), f_codeSize, a_stmt, a_stmtCount, a_term, a_rom, a_initial, a_marked, a_uses, a_dist, a_ptLabel, a_ptKind, a_ptFirst, a_ptSecond, a_before, a_after, a_exitOf, a_head, a_rankOf, a_byRank, a_codeStart, a_codeEnd, a_codeOp, a_codeDst, a_codeMode, a_codeX, a_codeY, a_values, a_status, a_result, a_forks, a_outCount, a_output, a_place) ((nI V), (nI B), (nI L), (nI Q), (nI C), (nI n), g_dyn, g_at, (a_place 1), b_code, a_stmtCount, a_rom, a_initial, a_marked, b_pLabel, b_pVal, a_status, b_result, b_forks, b_outs, a_output, w)) ∧ (∀ j, j < n → a_ptFirst p = nI j → nI (pu_rk V n b_pLabel b_pVal j) = x ∧ i_Rel (k + 5) ((nI V), (nI B), (nI L), (nI Q), f_residualMachine, f_directMachine, f_work, f_opMove, f_opOut, f_countCap, (nI C), f_residual, (nI n), f_codeSize, a_stmt, a_stmtCount, a_term, a_rom, a_initial, a_marked, a_uses, a_dist, a_ptLabel, a_ptKind, a_ptFirst, a_ptSecond, a_before, a_after, a_exitOf, a_head, a_rankOf, a_byRank, a_codeStart, a_codeEnd, a_codeOp, a_codeDst, a_codeMode, a_codeX, a_codeY, a_values, a_status, a_result, a_forks, a_outCount, a_output, a_place) ((nI V), (nI B), (nI L), (nI Q), (nI C), (nI n), g_dyn, g_at, (a_place 1), b_code, a_stmtCount, a_rom, a_initial, a_marked, b_pLabel, b_pVal, a_status, b_result, b_forks, b_outs, a_output, w))) → wpY_pointFact (fun r' v' => r' = x ∧ i_Rel (k + 5) ((nI V), (nI B), (nI L), (nI Q), f_residualMachine, f_directMachine, f_work, f_opMove, f_opOut, f_countCap, (nI C), f_residual, (nI n), f_codeSize, a_stmt, a_stmtCount, a_term, a_rom, a_initial, a_marked, a_uses, a_dist, a_ptLabel, a_ptKind, a_ptFirst, a_ptSecond, a_before, a_after, a_exitOf, a_head, a_rankOf, a_byRank, a_codeStart, a_codeEnd, a_codeOp, a_codeDst, a_codeMode, a_codeX, a_codeY, a_values, a_status, a_result, a_forks, a_outCount, a_output, a_place) v') ((nI V), (nI B), (nI L), (nI Q), (nI C), (nI n), g_dyn, g_at, (a_place 1), b_code, a_stmtCount, a_rom, a_initial, a_marked, b_pLabel, b_pVal, a_status, b_result, b_forks, b_outs, a_output, b_val) (nI r) (nI 2) :=
      fun x K => ystart _ (hy _ (br_f (by decide) (br_f (by decide) (br_f (by decide) (br_f (by decide) (br_f (by decide) (hsc false 0 (a_ptFirst p) _ ⟨fun _ => rfl, fun _ => rfl⟩ (hF p hp) K)))))))
    refine hxr _ _ (fun e => go _ (fun w hw => ⟨fun _ => ⟨rfl, Z w hw⟩, fun j hj e' => absurd (e'.symm.trans e) (ar_ne1 (by omega))⟩)) (fun j hj e => go _ (fun w hw => ⟨fun e' => absurd (e.symm.trans e') (ar_ne1 (by omega)), fun j' hj' e' => ⟨?_, Z w hw⟩⟩)) (hqc _ _ (hF p hp))
    rw [(nI_eq (by omega) (by omega)).mp (e'.symm.trans e)]
  · -- second successor
    refine br_f (by decide) (br_f (by decide) (br_f (by decide) (br_f (by decide) (br_t rfl (And.intro ip ?_)))))
    rw [ep]
    have go : ∀ x : Int32, (∀ w : Nat → Int32, (∀ j, j < 16 → w j = b_val j) → (a_ptSecond p = -1 → -1 = x ∧ i_Rel (k + 5) ((nI V), (nI B), (nI L), (nI Q), f_residualMachine, f_directMachine, f_work, f_opMove, f_opOut, f_countCap, (nI C), f_residual, (nI n), f_codeSize, a_stmt, a_stmtCount, a_term, a_rom, a_initial, a_marked, a_uses, a_dist, a_ptLabel, a_ptKind, a_ptFirst, a_ptSecond, a_before, a_after, a_exitOf, a_head, a_rankOf, a_byRank, a_codeStart, a_codeEnd, a_codeOp, a_codeDst, a_codeMode, a_codeX, a_codeY, a_values, a_status, a_result, a_forks, a_outCount, a_output, a_place) ((nI V), (nI B), (nI L), (nI Q), (nI C), (nI n), g_dyn, g_at, (a_place 1), b_code, a_stmtCount, a_rom, a_initial, a_marked, b_pLabel, b_pVal, a_status, b_result, b_forks, b_outs, a_output, w)) ∧ (∀ j, j < n → a_ptSecond p = nI j → nI (pu_rk V n b_pLabel b_pVal j) = x ∧ i_Rel (k + 5) ((nI V), (nI B), (nI L), (nI Q), f_residualMachine, f_directMachine, f_work, f_opMove, f_opOut, f_countCap, (nI C), f_residual, (nI n), f_codeSize, a_stmt, a_stmtCount, a_term, a_rom, a_initial, a_marked, a_uses, a_dist, a_ptLabel, a_ptKind, a_ptFirst, a_ptSecond, a_before, a_after, a_exitOf, a_head, a_rankOf, a_byRank, a_codeStart, a_codeEnd, a_codeOp, a_codeDst, a_codeMode, a_codeX, a_codeY, a_values, a_status, a_result, a_forks, a_outCount, a_output, a_place) ((nI V), (nI B), (nI L), (nI Q), (nI C), (nI n), g_dyn, g_at, (a_place 1), b_code, a_stmtCount, a_rom, a_initial, a_marked, b_pLabel, b_pVal, a_status, b_result, b_forks, b_outs, a_output, w))) → wpY_pointFact (fun r' v' => r' = x ∧ i_Rel (k + 5) ((nI V), (nI B), (nI L), (nI Q), f_residualMachine, f_directMachine, f_work, f_opMove, f_opOut, f_countCap, (nI C), f_residual, (nI n), f_codeSize, a_stmt, a_stmtCount, a_term, a_rom, a_initial, a_marked, a_uses, a_dist, a_ptLabel, a_ptKind, a_ptFirst, a_ptSecond, a_before, a_after, a_exitOf, a_head, a_rankOf, a_byRank, a_codeStart, a_codeEnd, a_codeOp, a_codeDst, a_codeMode, a_codeX, a_codeY, a_values, a_status, a_result, a_forks, a_outCount, a_output, a_place) v') ((nI V), (nI B), (nI L), (nI Q), (nI C), (nI n), g_dyn, g_at, (a_place 1), b_code, a_stmtCount, a_rom, a_initial, a_marked, b_pLabel, b_pVal, a_status, b_result, b_forks, b_outs, a_output, b_val) (nI r) (nI 3) :=
      fun x K => ystart _ (hy _ (br_f (by decide) (br_f (by decide) (br_f (by decide) (br_f (by decide) (br_t rfl (hsc true 1 (a_ptSecond p) _ ⟨fun z => absurd z (by decide), fun z => absurd z (by decide)⟩ (hS p hp) K)))))))
    refine hxr _ _ (fun e => go _ (fun w hw => ⟨fun _ => ⟨rfl, Z w hw⟩, fun j hj e' => absurd (e'.symm.trans e) (ar_ne1 (by omega))⟩)) (fun j hj e => go _ (fun w hw => ⟨fun e' => absurd (e.symm.trans e') (ar_ne1 (by omega)), fun j' hj' e' => ⟨?_, Z w hw⟩⟩)) (hqc _ _ (hS p hp))
    rw [(nI_eq (by omega) (by omega)).mp (e'.symm.trans e)]
  · -- doomed
    refine br_f (by decide) (br_f (by decide) (br_f (by decide) (br_f (by decide) (br_f (by decide) (br_t rfl (And.intro ip ?_))))))
    rw [ep]
    rcases rs_exit hres hs hB hp with ⟨e, hall⟩ | ⟨K, hK, hch, hK1, hK2, e⟩
    · refine br_f (by rw [e]; exact ar_neg1) (ystart _ (hy _ (br_f (by decide) (br_f (by decide) (br_t rfl ?_)))))
      refine yw_doomed (F := a_ptFirst) hs rfl hV hL hB hn hp hpt hDY hF (fun _ w hw => br_f (by decide) ⟨rfl, Z w hw⟩) (fun ⟨j, hj, hj3⟩ => ?_)
      exact absurd (((hres.2.2.1 _ (hall j).2).1).symm.trans (hall j).1) hj3
    · have hc := hch K (Nat.le_refl _)
      refine br_t (by rw [e]; exact nI_pos' (by omega)) (ystart _ (hy _ (br_f (by decide) (br_f (by decide) (br_t rfl ?_)))))
      refine yw_doomed (F := a_ptFirst) hs rfl hV hL hB hn hp hpt hDY hF (fun hall => ?_) (fun _ w hw => br_t rfl ⟨rfl, Z w hw⟩)
      exact absurd (((hres.2.2.1 _ hc).1).trans (hall K (by omega))) hK2
  · -- head
    refine br_t (by decide) (And.intro ip ?_)
    rw [ep]
    have hKD := fun q hq => (hres.2.2.1 q hq).1
    have hequiv : pu_hd n a_ptFirst a_ptSecond a_ptKind p ↔ (p = 0 ∨ ∃ q, q < n ∧ pu_kd b_code sz (pu_D a_dist) (b_pLabel q).toNatClampNeg = 4 ∧ (a_ptFirst q = nI p ∨ a_ptSecond q = nI p)) := by
      constructor
      · rintro (z | ⟨q, hq, k4, z⟩)
        · exact Or.inl z
        · exact Or.inr ⟨q, hq, (hKD q hq).symm.trans k4, z⟩
      · rintro (z | ⟨q, hq, k4, z⟩)
        · exact Or.inl z
        · exact Or.inr ⟨q, hq, (hKD q hq).trans k4, z⟩
    rcases hres.2.2.2.2.2.2.1 p hp with ⟨e, hh⟩ | ⟨e, hh⟩
    · refine br_f (by rw [e]; decide) (ystart _ (hy _ (br_f (by decide) (br_f (by decide) (br_f (by decide) (br_t rfl ?_))))))
      exact yw_head (F := a_ptFirst) (S := a_ptSecond) hs rfl hV hL hB hn hp hpt hDY hF hS (fun _ w hw => br_f (by decide) ⟨rfl, Z w hw⟩) (fun z => absurd (hequiv.mp hh) z)
    · refine br_t e (ystart _ (hy _ (br_f (by decide) (br_f (by decide) (br_f (by decide) (br_t rfl ?_))))))
      exact yw_head (F := a_ptFirst) (S := a_ptSecond) hs rfl hV hL hB hn hp hpt hDY hF hS (fun z => absurd (hequiv.mpr z) hh) (fun _ w hw => br_t rfl ⟨rfl, Z w hw⟩)
end
section
/-- the static store of the start point -/
def pu_in (V : Nat) (D : Nat → Bool) (init : Nat → Int32) : Nat → Int32 := fun v => if v < V then (if D v = true then 0 else init v) else 0
section
variable {V B L Q n : Nat} {f_residualMachine f_directMachine f_work f_opMove f_opOut f_countCap f_cursorLabel f_residual f_found f_codeSize : Int32} {a_stmt a_stmtCount a_term a_rom a_initial a_marked a_uses a_dist a_ptLabel a_ptKind a_ptFirst a_ptSecond a_before a_after a_exitOf a_head a_rankOf a_byRank a_codeStart a_codeEnd a_codeOp a_codeDst a_codeMode a_codeX a_codeY a_values a_status a_result a_forks a_outCount a_output a_place : Nat → Int32} {D : Nat → Bool}
theorem xw_coll {post : Int32 → SX → Prop} (hV : V ≤ 8) (hQ : Q ≤ 32) (hQ4 : 4 ≤ Q) (hD : ∀ v, v < V → (0 ≤ a_dist v ↔ D v = true))
    (K : ∀ w bf : Nat → Int32, (∀ j, j < 16 → w j = a_values j) → (∀ v, v < V → bf v = pu_in V D a_initial v) → ∃ n65, wX_collectPoints_65 post n65 1 0 (nI V) (nI B) (nI L) (nI Q) f_residualMachine f_directMachine f_work f_opMove f_opOut f_countCap f_cursorLabel f_residual (nI 1) f_codeSize a_stmt a_stmtCount a_term a_rom a_initial a_marked a_uses a_dist (upd a_ptLabel 0 0) a_ptKind a_ptFirst a_ptSecond bf a_after a_exitOf a_head a_rankOf a_byRank a_codeStart a_codeEnd a_codeOp a_codeDst a_codeMode a_codeX a_codeY w a_status a_result a_forks a_outCount a_output a_place) :
    wpX_collectPoints post ((nI V), (nI B), (nI L), (nI Q), f_residualMachine, f_directMachine, f_work, f_opMove, f_opOut, f_countCap, f_cursorLabel, f_residual, f_found, f_codeSize, a_stmt, a_stmtCount, a_term, a_rom, a_initial, a_marked, a_uses, a_dist, a_ptLabel, a_ptKind, a_ptFirst, a_ptSecond, a_before, a_after, a_exitOf, a_head, a_rankOf, a_byRank, a_codeStart, a_codeEnd, a_codeOp, a_codeDst, a_codeMode, a_codeX, a_codeY, a_values, a_status, a_result, a_forks, a_outCount, a_output, a_place) := by
  have key : ∀ e i, i + e = V → ∀ w : Nat → Int32, (∀ v, v < i → w (16 + v) = pu_in V D a_initial v) → (∀ j, j < 16 → w j = a_values j) → ∀ k, e < k → wX_collectPoints_7 post (nI V) (nI B) (nI L) (nI Q) f_residualMachine f_directMachine f_work f_opMove f_opOut f_countCap f_cursorLabel f_residual 0 f_codeSize k (nI i) a_stmt a_stmtCount a_term a_rom a_initial a_marked a_uses a_dist a_ptLabel a_ptKind a_ptFirst a_ptSecond a_before a_after a_exitOf a_head a_rankOf a_byRank a_codeStart a_codeEnd a_codeOp a_codeDst a_codeMode a_codeX a_codeY w a_status a_result a_forks a_outCount a_output a_place := by
    intro e
    induction e with
    | zero =>
      intro i hi w h1 h2 k hk
      obtain ⟨m, rfl⟩ : ∃ m, k = m + 1 := ⟨k - 1, by omega⟩
      obtain rfl : V = i := by omega
      refine br_t (nI_le (by omega) (by omega)) (xw_intern (n := 0) hV (by omega) hQ (fun r n' pl' bf' hi => ?_))
      rcases hi with ⟨q, hq, _⟩ | ⟨_, _, er, en, ep, eb, _⟩ | ⟨_, hn, _⟩
      · omega
      · subst er en ep
        refine br_f (by decide) (K w bf' h2 (fun v hv => ?_))
        have := eb v hv
        rw [Nat.zero_mul, Nat.zero_add] at this
        rw [this]; exact h1 v hv
      · omega
    | succ e ih =>
      intro i hi w h1 h2 k hk
      obtain ⟨m, rfl⟩ : ∃ m, k = m + 1 := ⟨k - 1, by omega⟩
      have ei : (nI i).toNatClampNeg = i := nI_clamp (by omega)
      have i8 : vp_in (nI i) 8 := vp_in_nI (by omega) (by omega)
      have i24 : vp_in (16 + nI i) 24 := by rw [ar_16]; exact vp_in_nI (by omega) (by omega)
      have e16 : (16 + nI i).toNatClampNeg = 16 + i := by rw [ar_16, nI_clamp (by omega)]
      have hnx : ∀ x, x = pu_in V D a_initial i → wX_collectPoints_7 post (nI V) (nI B) (nI L) (nI Q) f_residualMachine f_directMachine f_work f_opMove f_opOut f_countCap f_cursorLabel f_residual 0 f_codeSize m (nI (i + 1)) a_stmt a_stmtCount a_term a_rom a_initial a_marked a_uses a_dist a_ptLabel a_ptKind a_ptFirst a_ptSecond a_before a_after a_exitOf a_head a_rankOf a_byRank a_codeStart a_codeEnd a_codeOp a_codeDst a_codeMode a_codeX a_codeY (upd w (16 + i) x) a_status a_result a_forks a_outCount a_output a_place := by
        intro x ex
        refine ih (i + 1) (by omega) _ (lt_s (fun v hv => ?_) (by rw [pk_us]; exact ex)) (fun j hj => ?_) m (by omega)
        · rw [pk_un (by omega)]; exact h1 v hv
        · rw [pk_un (by omega)]; exact h2 j hj
      refine br_f (nI_ge (by omega) (by omega)) (And.intro i8 (br_c (fun g => ?_) (fun g => ?_)))
      · rw [ei] at g
        refine And.intro i8 (And.intro i24 (nm_r (e' := upd w (16 + i) (a_initial i)) (by rw [e16, ei]) (nm_r (ar_a1 i) (hnx _ ?_))))
        unfold pu_in
        rw [if_pos (by omega), if_neg (fun z => ar_nle g ((hD i (by omega)).mpr z))]
      · rw [ei] at g
        refine And.intro i24 (nm_r (e' := upd w (16 + i) 0) (by rw [e16]) (nm_r (ar_a1 i) (hnx _ ?_)))
        unfold pu_in
        rw [if_pos (by omega), if_pos ((hD i (by omega)).mp (ar_lt g))]
  exact ⟨V + 1, key V 0 (by omega) a_values (fun v hv => by omega) (fun _ _ => rfl) _ (by omega)⟩
end
section
variable {V B L Q n : Nat} {g_cursor g_points g_dyn g_at g_place : Int32} {b_code b_size b_rom b_init b_marked b_pLabel b_pVal b_status b_result b_forks b_outs b_out b_val : Nat → Int32} {D : Nat → Bool} {sz : Nat → Nat} {stmt cnt term : Nat → Int32}
theorem yw_spec {post : Int32 → SY → Prop} (hs : pu_src V B L sz b_code stmt cnt term) (hV1 : 1 ≤ V) (hV : V ≤ 8) (hL : L ≤ 6) (hi : ∀ v, V ≤ v → v < 8 → b_init v = 0) (hD : ∀ s, (∀ v, v < 8 → (pu_has s (nI v) = true ↔ ∃ k, pu_lev V b_marked (pu_dep sz b_code) k v)) → ∀ v, v < V → pu_has s (nI v) = D v)
    (K : ∀ s, (∀ v, v < V → pu_has s (nI v) = D v) → ∃ m, wY_specialise_64 post m 0 (nI V) (nI B) (nI L) (nI Q) g_cursor (nI 1) s g_at g_place b_code b_size b_rom b_init b_marked (upd b_pLabel 0 0) (pu_gl b_pVal 0 8 (pu_in V D b_init)) (upd b_status 0 0) b_result b_forks b_outs b_out (pu_gl b_val 16 8 (pu_in V D b_init))) :
    wpY_specialise post ((nI V), (nI B), (nI L), (nI Q), g_cursor, g_points, g_dyn, g_at, g_place, b_code, b_size, b_rom, b_init, b_marked, b_pLabel, b_pVal, b_status, b_result, b_forks, b_outs, b_out, b_val) := by
  unfold wpY_specialise
  refine yw_drop (yw_dset hs hV1 hV hL (fun s hs' => ?_))
  have hsD := hD s hs'
  have key : ∀ e i, i + e = 8 → ∀ w : Nat → Int32, (∀ v, v < i → w (16 + v) = pu_in V D b_init v) → (∀ j, (j < 16 ∨ 24 ≤ j) → w j = b_val j) → ∀ k, e < k → wY_specialise_14 post (nI V) (nI B) (nI L) (nI Q) g_cursor 0 s g_at g_place k (nI i) b_code b_size b_rom b_init b_marked b_pLabel b_pVal (upd b_status 0 0) b_result b_forks b_outs b_out w := by
    intro e
    induction e with
    | zero =>
      intro i hi' w h1 h2 k hk
      obtain ⟨m, rfl⟩ : ∃ m, k = m + 1 := ⟨k - 1, by omega⟩
      obtain rfl := gl_eq (a := b_val) (k := 16) (N := 8) (fun v hv => h1 v (by omega)) h2
      refine br_t (nI_le (a := 8) (by omega) (by omega)) (yw_add (n := 0) (by omega) (fun pv h3 h4 => ?_))
      have h3' : ∀ v, v < 8 → pv (0 + v) = pu_in V D b_init v := fun v hv => by
        have := h3 v hv
        rw [gl_in hv, Nat.zero_mul] at this
        exact this
      obtain rfl := gl_eq (a := b_pVal) (k := 0) (N := 8) h3' (fun j hj => h4 j (by omega))
      exact K s hsD
    | succ e ih =>
      intro i hi' w h1 h2 k hk
      obtain ⟨m, rfl⟩ : ∃ m, k = m + 1 := ⟨k - 1, by omega⟩
      have ei : (nI i).toNatClampNeg = i := nI_clamp (by omega)
      have i24 : vp_in (16 + nI i) 24 := by rw [ar_16]; exact vp_in_nI (by omega) (by omega)
      have e16 : (16 + nI i).toNatClampNeg = 16 + i := by rw [ar_16, nI_clamp (by omega)]
      have hnx : ∀ x, x = pu_in V D b_init i → wY_specialise_14 post (nI V) (nI B) (nI L) (nI Q) g_cursor 0 s g_at g_place m (nI (i + 1)) b_code b_size b_rom b_init b_marked b_pLabel b_pVal (upd b_status 0 0) b_result b_forks b_outs b_out (upd w (16 + i) x) := by
        intro x ex
        refine ih (i + 1) (by omega) _ (lt_s (fun v hv => ?_) (by rw [pk_us]; exact ex)) (fun j hj => ?_) m (by omega)
        · rw [pk_un (by omega)]; exact h1 v hv
        · rw [pk_un (by omega)]; exact h2 j hj
      refine br_f (nI_ge (b := 8) (by omega) (by omega)) (yw_has (fun g => ?_) (fun g => ?_))
      · refine br_f (by decide) (And.intro i24 (nm_r (e' := upd w (16 + i) 0) (by rw [e16]) (nm_r (ar_a1 i) (hnx _ ?_))))
        obtain ⟨k', hk'⟩ := (hs' i (by omega)).mp g
        have hiV := le_V _ _ hk'
        unfold pu_in
        rw [if_pos hiV, if_pos (by rw [← hsD i hiV]; exact g)]
      · refine br_t rfl (And.intro (vp_in_nI (by omega) (by omega)) (And.intro i24 (nm_r (e' := upd w (16 + i) (b_init i)) (by rw [e16, ei]) (nm_r (ar_a1 i) (hnx _ ?_)))))
        unfold pu_in
        by_cases hiV : i < V
        · rw [if_pos hiV, if_neg (by rw [← hsD i hiV, g]; decide)]
        · rw [if_neg hiV]; exact hi i (by omega) (by omega)
  exact ⟨9, key 8 0 (by omega) b_val (fun v hv => by omega) (fun _ _ => rfl) _ (by omega)⟩
end
theorem i_vc_specialise {k : Nat} {u : SX} {v : SY} (I : i_Rel k u v) (hk : k + 5 ≤ 2564) : wpX_specialise (fun r u' => wpY_specialise (fun r' v' => r' = r ∧ i_Rel (k + 5) u' v') v) u := by
  refine zz_el (P := fun u v => wpX_specialise (fun r u' => wpY_specialise (fun r' v' => r' = r ∧ i_Rel (k + 5) u' v') v) u) I ?_
  intro V B L Q C sz f_residualMachine f_directMachine f_work f_opMove f_opOut f_countCap f_residual f_found f_codeSize a_stmt a_stmtCount a_term a_rom a_initial a_marked a_uses a_dist a_ptLabel a_ptKind a_ptFirst a_ptSecond a_before a_after a_exitOf a_head a_rankOf a_byRank a_codeStart a_codeEnd a_codeOp a_codeDst a_codeMode a_codeX a_codeY a_values a_status a_result a_forks a_outCount a_output a_place g_points g_dyn g_at b_code b_pLabel b_pVal b_result b_forks b_outs b_val F
  obtain ⟨⟨⟨hV2, hV⟩, ⟨hB2, hB⟩, ⟨hL1, hL⟩, ⟨hQ4, hQ⟩, hC⟩, hs, hu, hd, hi, hdr, hr⟩ := id F
  unfold wpX_specialise
  refine xw_dropK (F_hd F) (fun rs fk pc e1 e2 e3 => ?_)
  refine xw_coll (D := pu_D a_dist) hV hQ hQ4 (fun v _ => D_iff) (fun w0 bf0 hw0 hbf0 => ⟨34, ?_⟩)
  have hin0 : ∀ v, v < 8 → (V ≤ v ∨ pu_D a_dist v = true) → pu_in V (pu_D a_dist) a_initial v = 0 := by
    intro v hv h
    unfold pu_in
    by_cases z : v < V
    · rw [if_pos z, if_pos (h.resolve_left (by omega))]
    · rw [if_neg z]
  have hR0 : pu_R V B 1 (pu_D a_dist) (upd a_ptLabel 0 0) bf0 (upd b_pLabel 0 0) (pu_gl b_pVal 0 8 (pu_in V (pu_D a_dist) a_initial)) := by
    have g1 : ∀ v, v < 8 → pu_gl b_pVal 0 8 (pu_in V (pu_D a_dist) a_initial) (0 * 8 + v) = pu_in V (pu_D a_dist) a_initial v := by
      intro v hv
      have := gl_in (a := b_pVal) (k := 0) (N := 8) (f := pu_in V (pu_D a_dist) a_initial) hv
      rw [Nat.zero_mul]; exact this
    refine ⟨⟨fun p hp => ⟨0, by omega, ?_⟩, fun p v hp hv h => ?_, fun p q hp hq _ _ => by omega⟩, fun p hp => ?_, fun p v hp hv => ?_⟩
    · rw [show p = 0 by omega, pk_us]; rfl
    · rw [show p = 0 by omega, g1 v hv]; exact hin0 v hv h
    · rw [show p = 0 by omega, pk_us, pk_us]
    · rw [show p = 0 by omega, g1 v (by omega), Nat.zero_mul, Nat.zero_add]; exact hbf0 v hv
  refine lk_collect (YG := fun postY => wpY_specialise postY ((nI V), (nI B), (nI L), (nI Q), (nI C), g_points, g_dyn, g_at, (a_place 1), b_code, a_stmtCount, a_rom, a_initial, a_marked, b_pLabel, b_pVal, a_status, b_result, b_forks, b_outs, a_output, b_val)) (D := pu_D a_dist) (a_dist := a_dist) (pv0 := pu_gl b_pVal 0 8 (pu_in V (pu_D a_dist) a_initial)) (a_values := a_values) (b_val := b_val) (b_status := upd a_status 0 0) (b_result := b_result) (b_forks := b_forks) (b_outs := b_outs) (b_out := a_output) (b_init := a_initial) (b_marked := a_marked) (g_cursor := nI C) (g_at := g_at) (g_place := a_place 1) hs hV hL hB hQ (fun v _ => D_iff)
    (fun n px pk pf ps bf af w pl pv vl hw hvl hp0 hci hYY => ?_) (fun fd px pk pf ps bf af w pl pv vl hw hvl hYY => ?_) 33 0 (by omega) 1 (upd a_ptLabel 0 0) a_ptKind a_ptFirst a_ptSecond bf0 a_after w0 (upd b_pLabel 0 0) (pu_gl b_pVal 0 8 (pu_in V (pu_D a_dist) a_initial)) (pu_gl b_val 16 8 (pu_in V (pu_D a_dist) a_initial)) hw0 (fun j hj => gl_out (by omega)) (fun _ _ => rfl)
    ⟨by omega, by omega, by omega, hR0, fun p hp => by omega⟩ (fun postY m K => ?_) _ (by omega)
  · -- all points found
    obtain ⟨_, hn1, hnQ, ⟨hpt, hpx, hbf⟩, hdn⟩ := hci
    have hn : n ≤ 32 := by omega
    have hF : ∀ p, p < n → pk p = 3 → ∃ q, q < n ∧ pf p = nI q := by
      intro p hp h3
      obtain ⟨a, b, c, d⟩ := hdn p hp
      obtain ⟨l, hl, el⟩ := hpt.1 p hp
      rcases c with z | ⟨q, hq, e, _⟩
      · rw [h3, el, nI_clamp (by omega)] at a
        rw [el, nI_clamp (by omega)] at z
        exact absurd z.1 (tl_jump hs (by omega) hB a.symm)
      · exact ⟨q, hq, e⟩
    have hF4 : ∀ p, p < n → pk p = 4 → ∃ q, q < n ∧ pf p = nI q := by
      intro p hp h3
      obtain ⟨a, b, c, d⟩ := hdn p hp
      obtain ⟨l, hl, el⟩ := hpt.1 p hp
      rcases c with z | ⟨q, hq, e, _⟩
      · rw [h3, el, nI_clamp (by omega)] at a
        rw [el, nI_clamp (by omega)] at z
        exact absurd z.1 (tl_fork hs (by omega) hB false a.symm)
      · exact ⟨q, hq, e⟩
    have hS4 : ∀ p, p < n → pk p = 4 → ∃ q, q < n ∧ ps p = nI q := by
      intro p hp h3
      obtain ⟨a, b, c, d⟩ := hdn p hp
      obtain ⟨l, hl, el⟩ := hpt.1 p hp
      rcases d with z | ⟨q, hq, e, _⟩
      · rw [h3, el, nI_clamp (by omega)] at a
        rw [el, nI_clamp (by omega)] at z
        exact absurd z.1 (tl_fork hs (by omega) hB true a.symm)
      · exact ⟨q, hq, e⟩
    refine br_f (by decide) (xw_rank hn hV hpt hpx hbf (fun ro br h1 h2 => xw_exits hn hF (fun ex h3 => xw_heads hn hF4 hS4 (fun hd' h4 => xw_cheads (pl := pl) (pv := pv) hs hV hL hB hn hpt (fun v _ => D_iff) hpx hbf hF h3 (fun cz w' cs ce co cn cm cx cy h5 h6 => ?_)))))
    refine hYY _ (fun s hs' => ⟨rfl, zz_ip (sz := sz) ?_ e3⟩)
    have o1 : upd a_outCount 0 0 1 = a_outCount 1 := pk_un (by decide)
    have s1 : upd a_status 0 0 1 = a_status 1 := pk_un (by decide)
    refine ⟨F.1, hs, hu, hd, hi, ⟨fun v hv => ?_, e1.trans hdr.2.1, e2.trans hdr.2.2.1, o1.trans hdr.2.2.2.1, ?_, ?_⟩, Or.inr ⟨rfl, n, rfl, rfl, ⟨⟨hn1, hn⟩, ⟨hpt, hpx, hbf⟩, hdn, h1, h2, h3, h4, h6, hs'⟩, fun v hv hD => ?_, ?_, Or.inl ⟨pk_us, pk_us⟩⟩⟩
    · rw [h5 _ (by omega), hw _ (by omega), hvl _ (by omega)]; exact hdr.1 v hv
    · rw [o1]; exact hdr.2.2.2.2.1
    · rw [s1, o1]; exact hdr.2.2.2.2.2
    · rw [hp0 v (by omega)]
      have := gl_in (a := b_pVal) (k := 0) (N := 8) (f := pu_in V (pu_D a_dist) a_initial) (show v < 8 by omega)
      rw [Nat.zero_add] at this
      rw [this]
      unfold pu_in
      rw [if_pos hv, if_neg (by rw [hD]; decide)]
    · rw [pk_us]; exact ⟨0, by omega, rfl⟩
  · -- too many
    have ess : upd (upd a_status 0 0) 0 0 = upd a_status 0 0 := ar_upd_self pk_us
    rw [ess] at hYY
    refine br_t rfl (hYY _ (fun s hs' => ⟨rfl, zz_dr ⟨⟨hV2, hV⟩, ⟨hB2, hB⟩, ⟨hL1, hL⟩, ⟨hQ4, hQ⟩, hC⟩ hs hu hd hi ⟨fun v hv => ?_, hdr.2⟩ e1 e2 e3⟩))
    rw [hw _ (by omega), hvl _ (by omega)]; exact hdr.1 v hv
  · -- the reference comes to the same start
    exact yw_spec (D := pu_D a_dist) hs (by omega) hV hL hi (fun s hs' => has_D hV hd hs') (fun s hs' => ⟨m, K s hs'⟩)
end
