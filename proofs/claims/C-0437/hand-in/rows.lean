section
/-! rows of kit/rows/PURE-ROWS (pasted): stores, nI arithmetic, branches by naturals; then this claim's own number rows -/
theorem pk_us {f : Nat → Int32} {k : Nat} {x : Int32} : upd f k x k = x := if_pos rfl
theorem pk_un {f : Nat → Int32} {k j : Nat} {x : Int32} (h : j ≠ k) : upd f k x j = f j := if_neg h
theorem pk_sub {a b : Nat} (h : b ≤ a) : nI a - nI b = nI (a - b) := by
  obtain ⟨c, rfl⟩ : ∃ c, a = c + b := ⟨a - b, by omega⟩
  rw [← nI_add, Int32.add_sub_cancel, Nat.add_sub_cancel]
theorem pk_mul (a b : Nat) : nI a * nI b = nI (a * b) := (Int32.ofNat_mul a b).symm
theorem pk_div {a d : Nat} (ha : a < 2 ^ 31) (h0 : 0 < d) (hd : d < 2 ^ 31) : nI a / nI d = nI (a / d) := by
  apply Int32.toInt_inj.mp
  rw [lg_idiv_nonneg (by rw [nI_toInt ha]; omega) (by rw [nI_toInt hd]; omega), nI_toInt ha, nI_toInt hd, nI_toInt (Nat.lt_of_le_of_lt (Nat.div_le_self a d) ha)]
  first | rfl | exact (Int.natCast_ediv _ _).symm
theorem pk_sub_toInt {a b : Nat} (ha : a < 2 ^ 30) (hb : b < 2 ^ 30) : (nI a - nI b).toInt = (a : Int) - b := by
  rw [Int32.toInt_sub, nI_toInt (by omega), nI_toInt (by omega)]
  exact Int.bmod_eq_of_le (by omega) (by omega)
theorem pk_sneg {a b : Nat} (hb : b < 2 ^ 30) (h : a < b) : nI a - nI b < 0 := by
  rw [Int32.lt_iff_toInt_lt, pk_sub_toInt (by omega) hb, show (0 : Int32).toInt = 0 from by decide]
  omega
theorem pk_ix (x : Int32) {n : Nat} (hn : n < 2 ^ 31) : x < 0 ∨ nI n ≤ x ∨ ∃ j : Nat, j < n ∧ x = nI j := by
  by_cases h : x < 0
  · exact Or.inl h
  · obtain ⟨j, hj, rfl⟩ := nI_of h
    by_cases h2 : j < n
    · exact Or.inr (Or.inr ⟨j, h2, rfl⟩)
    · exact Or.inr (Or.inl (nI_le (by omega) hj))
theorem pk_le {x y : Int32} {A B : Prop} (a b : Nat) (f : a ≤ b → A) (g : b < a → B) (hx : x = nI a := by rfl) (hy : y = nI b := by rfl) (ha : a < 2 ^ 31 := by omega) (hb : b < 2 ^ 31 := by omega) : (x ≤ y → A) ∧ (¬ x ≤ y → B) := by
  subst hx hy
  rw [nI_leI ha hb]
  exact ⟨f, fun z => g (by omega)⟩
theorem pk_lt {x y : Int32} {A B : Prop} (a b : Nat) (f : a < b → A) (g : b ≤ a → B) (hx : x = nI a := by rfl) (hy : y = nI b := by rfl) (ha : a < 2 ^ 31 := by omega) (hb : b < 2 ^ 31 := by omega) : (x < y → A) ∧ (¬ x < y → B) := by
  subst hx hy
  rw [nI_ltI ha hb]
  exact ⟨f, fun z => g (by omega)⟩
theorem pk_eq {x y : Int32} {A B : Prop} (a b : Nat) (f : a = b → A) (g : a ≠ b → B) (hx : x = nI a := by rfl) (hy : y = nI b := by rfl) (ha : a < 2 ^ 31 := by omega) (hb : b < 2 ^ 31 := by omega) : (x = y → A) ∧ (¬ x = y → B) := by
  subst hx hy
  rw [nI_eq ha hb]
  exact ⟨f, g⟩
theorem pk_in {x : Int32} (n N : Nat) (h : n < N) (hx : x = nI n := by rfl) (hN : N < 2 ^ 31 := by omega) : vp_in x N := by
  subst hx
  exact vp_in_nI h hN
theorem pk_cl {x : Int32} (n : Nat) (hx : x = nI n := by rfl) (h : n < 2 ^ 31 := by omega) : x.toNatClampNeg = n := by
  subst hx
  exact nI_clamp h
theorem lz_ix4 (p l : Nat) : nI p * 4 + nI l = nI (p * 4 + l) := by
  rw [show (4 : Int32) = nI 4 from rfl, pk_mul, nI_add]
theorem lz_ix11 (p l : Nat) : nI p * 11 + nI l = nI (p * 11 + l) := by
  rw [show (11 : Int32) = nI 11 from rfl, pk_mul, nI_add]
theorem lz_c4 {p l : Nat} (h : p * 4 + l < 2 ^ 31) : (nI p * 4 + nI l).toNatClampNeg = p * 4 + l := by
  rw [lz_ix4]; exact nI_clamp h
theorem lz_c11 {p l : Nat} (h : p * 11 + l < 2 ^ 31) : (nI p * 11 + nI l).toNatClampNeg = p * 11 + l := by
  rw [lz_ix11]; exact nI_clamp h
theorem lz_in4 {p l n : Nat} (h : p * 4 + l < n) (hn : n < 2 ^ 31) : vp_in (nI p * 4 + nI l) n := by
  rw [lz_ix4]; exact vp_in_nI h hn
theorem lz_in11 {p l n : Nat} (h : p * 11 + l < n) (hn : n < 2 ^ 31) : vp_in (nI p * 11 + nI l) n := by
  rw [lz_ix11]; exact vp_in_nI h hn
theorem lz_byte {k : Nat} (h : k < 128) : vp_nar .byte (nI k).toInt8.toInt32 = nI k := by
  have e : (nI k).toInt8.toInt32 = nI k := lg_i2b_small (by rw [nI_toInt (by omega)]; omega) (by rw [nI_toInt (by omega)]; omega)
  rw [vp_nar_byte, e, e]
theorem lz_n1 : (0 : Int32) + 1 = nI (0 + 1) := by decide +kernel
theorem lz_n0 : nI (0 + 0) = 0 := by decide +kernel
theorem lz_cl0 : (0 : Int32).toNatClampNeg = 0 := by decide
theorem lz_m1lt : (-1 : Int32) < 0 := by decide
theorem lz_m1nle : ¬ (0 : Int32) ≤ -1 := by decide
theorem lz_nIne {a : Nat} {x : Int32} (ha : a < 2 ^ 31) (hx : x < 0) : ¬ nI a = x := by
  intro e; rw [← e] at hx; exact nI_pos ha hx
end
section
/-! the plain law: the automaton of a pattern W of m letters -/
def lz_up (f : Nat → Nat) (q l : Nat) : Nat → Nat := fun j => if j = q then l else f j
theorem lz_up_s (f : Nat → Nat) (q l : Nat) : lz_up f q l q = l := if_pos rfl
theorem lz_up_n {f : Nat → Nat} {q l j : Nat} (h : j ≠ q) : lz_up f q l j = f j := if_neg h
/-- W's first k letters are the last k of f's first n -/
abbrev lz_sf (W f : Nat → Nat) (n k : Nat) : Prop := k ≤ n ∧ ∀ i, i < k → f (n - k + i) = W i
def lz_LG (m : Nat) (W f : Nat → Nat) (n k : Nat) : Prop := k ≤ m ∧ lz_sf W f n k ∧ ∀ k', k' ≤ m → lz_sf W f n k' → k' ≤ k
def lz_lg (W f : Nat → Nat) (n : Nat) : Nat → Nat
  | 0 => 0
  | k + 1 => if lz_sf W f n (k + 1) then k + 1 else lz_lg W f n k
theorem lz_lg_LG (W f : Nat → Nat) (n : Nat) : ∀ m, lz_LG m W f n (lz_lg W f n m) := by
  intro m
  induction m with
  | zero =>
    refine ⟨Nat.le_refl 0, ⟨Nat.zero_le _, fun i hi => absurd hi (Nat.not_lt_zero i)⟩, fun k' h _ => h⟩
  | succ m ih =>
    by_cases h : lz_sf W f n (m + 1)
    · have e : lz_lg W f n (m + 1) = m + 1 := if_pos h
      rw [e]
      exact ⟨Nat.le_refl _, h, fun k' hk _ => hk⟩
    · have e : lz_lg W f n (m + 1) = lz_lg W f n m := if_neg h
      rw [e]
      refine ⟨Nat.le_succ_of_le ih.1, ih.2.1, fun k' hk hs => ?_⟩
      by_cases h2 : k' = m + 1
      · rw [h2] at hs
        exact absurd hs h
      · exact ih.2.2 k' (by omega) hs
theorem lz_LG_u {m : Nat} {W f : Nat → Nat} {n a b : Nat} (ha : lz_LG m W f n a) (hb : lz_LG m W f n b) : a = b :=
  Nat.le_antisymm (hb.2.2 a ha.1 ha.2.1) (ha.2.2 b hb.1 hb.2.1)
theorem lz_LG_0 (m : Nat) (W f : Nat → Nat) : lz_LG m W f 0 0 :=
  ⟨Nat.zero_le _, ⟨Nat.le_refl 0, fun i hi => absurd hi (Nat.not_lt_zero i)⟩, fun _ _ h => h.1⟩
theorem lz_LG_cg {m : Nat} {W f g : Nat → Nat} {n k : Nat} (e : ∀ j, j < n → g j = f j) (h : lz_LG m W f n k) : lz_LG m W g n k := by
  refine ⟨h.1, ⟨h.2.1.1, fun i hi => ?_⟩, fun k' hk hs => h.2.2 k' hk ⟨hs.1, fun i hi => ?_⟩⟩
  · have := h.2.1.1
    rw [e _ (by omega)]
    exact h.2.1.2 i hi
  · have := hs.1
    rw [← e _ (by omega)]
    exact hs.2 i hi
/-- the transition: the longest beginning of W that ends W's first q letters and l -/
def lz_dl (m : Nat) (W : Nat → Nat) (q l : Nat) : Nat := lz_lg W (lz_up W q l) (q + 1) m
theorem lz_dl_LG (m : Nat) (W : Nat → Nat) (q l : Nat) : lz_LG m W (lz_up W q l) (q + 1) (lz_dl m W q l) := lz_lg_LG _ _ _ _
theorem lz_dl_le (m : Nat) (W : Nat → Nat) (q l : Nat) : lz_dl m W q l ≤ m := (lz_dl_LG m W q l).1
theorem lz_step {m : Nat} {W T : Nat → Nat} {n q : Nat} (h : lz_LG m W T n q) : lz_LG m W T (n + 1) (lz_dl m W q (T n)) := by
  have hd := lz_dl_LG m W q (T n)
  generalize lz_dl m W q (T n) = k at hd
  obtain ⟨hq, ⟨hqn, hqs⟩, hqm⟩ := h
  obtain ⟨hk, ⟨hkn, hks⟩, hkm⟩ := hd
  refine ⟨hk, ⟨by omega, fun i hi => ?_⟩, fun k' hk' hs => hkm k' hk' ?_⟩
  · rw [← hks i hi]
    by_cases e : i = k - 1
    · rw [show q + 1 - k + i = q by omega, lz_up_s, show n + 1 - k + i = n by omega]
    · rw [lz_up_n (by omega), ← hqs (q + 1 - k + i) (by omega)]
      exact congrArg T (by omega)
  · obtain ⟨h1, h2⟩ := hs
    by_cases z : k' = 0
    · exact ⟨by omega, fun i hi => by omega⟩
    have hk1 : k' - 1 ≤ q := hqm (k' - 1) (by omega) ⟨by omega, fun i hi => by
      rw [← h2 i (by omega)]
      exact congrArg T (by omega)⟩
    refine ⟨by omega, fun i hi => ?_⟩
    rw [← h2 i hi]
    by_cases e : i = k' - 1
    · rw [show q + 1 - k' + i = q by omega, lz_up_s, show n + 1 - k' + i = n by omega]
    · rw [lz_up_n (by omega), ← hqs (q + 1 - k' + i) (by omega)]
      exact congrArg T (by omega)
theorem lz_dl_0 {m : Nat} {W : Nat → Nat} (hm : 1 ≤ m) (l : Nat) : lz_dl m W 0 l = if W 0 = l then 1 else 0 := by
  refine lz_LG_u (lz_dl_LG m W 0 l) ?_
  by_cases e : W 0 = l
  · rw [if_pos e]
    refine ⟨hm, ⟨Nat.le_refl _, fun i hi => ?_⟩, fun k' _ hs => hs.1⟩
    rw [show i = 0 by omega]
    show lz_up W 0 l 0 = W 0
    rw [lz_up_s, e]
  · rw [if_neg e]
    refine ⟨Nat.zero_le _, ⟨Nat.zero_le _, fun i hi => absurd hi (Nat.not_lt_zero i)⟩, fun k' _ hs => ?_⟩
    by_cases z : k' = 0
    · omega
    · have h1 := hs.1
      have h2 := hs.2 0 (by omega)
      rw [show 0 + 1 - k' + 0 = 0 by omega, lz_up_s] at h2
      exact absurd h2.symm e
/-- it goes on -/
theorem lz_dl_on {m : Nat} {W : Nat → Nat} {q l : Nat} (hq : q < m) (e : W q = l) : lz_dl m W q l = q + 1 := by
  refine lz_LG_u (lz_dl_LG m W q l) ⟨hq, ⟨Nat.le_refl _, fun i hi => ?_⟩, fun k' _ hs => hs.1⟩
  rw [show q + 1 - (q + 1) + i = i by omega]
  by_cases z : i = q
  · rw [z, lz_up_s, e]
  · rw [lz_up_n z]
/-- it falls back -/
theorem lz_dl_back {m : Nat} {W : Nat → Nat} {q l b : Nat} (h0 : 1 ≤ q) (hb : lz_LG m W (fun i => W (i + 1)) (q - 1) b) (e : ¬ (q < m ∧ W q = l)) :
    lz_dl m W q l = lz_dl m W b l := by
  have h1 : lz_LG m W (fun i => lz_up W q l (i + 1)) (q - 1) b := lz_LG_cg (f := fun i => W (i + 1)) (fun j hj => lz_up_n (by omega)) hb
  have h2 : lz_LG m W (fun i => lz_up W q l (i + 1)) (q - 1 + 1) (lz_dl m W b (lz_up W q l (q - 1 + 1))) := lz_step h1
  have e2 : lz_up W q l (q - 1 + 1) = l := by
    rw [show q - 1 + 1 = q by omega, lz_up_s]
  rw [e2, show q - 1 + 1 = q by omega] at h2
  refine lz_LG_u (lz_dl_LG m W q l) ?_
  generalize lz_dl m W b l = k at h2
  obtain ⟨hk, ⟨hkn, hks⟩, hkm⟩ := h2
  refine ⟨hk, ⟨by omega, fun i hi => ?_⟩, fun k' hk' hs => ?_⟩
  · rw [← hks i hi]
    exact congrArg (lz_up W q l) (by omega)
  · obtain ⟨hs1, hs2⟩ := hs
    by_cases z : k' = q + 1
    · refine absurd ⟨by omega, ?_⟩ e
      have h3 := hs2 q (by omega)
      rw [show q + 1 - k' + q = q by omega, lz_up_s] at h3
      exact h3.symm
    · refine hkm k' hk' ⟨by omega, fun i hi => ?_⟩
      rw [← hs2 i hi]
      exact congrArg (lz_up W q l) (by omega)
/-! runs, counts of accepted places, counts of a letter -/
def lz_rn (d : Nat → Nat → Nat) (f : Nat → Nat) (q : Nat) : Nat → Nat
  | 0 => q
  | n + 1 => d (lz_rn d f q n) (f n)
def lz_hc (d : Nat → Nat → Nat) (m : Nat) (f : Nat → Nat) (q : Nat) : Nat → Nat
  | 0 => 0
  | n + 1 => lz_hc d m f q n + (if lz_rn d f q (n + 1) = m then 1 else 0)
def lz_cn (f : Nat → Nat) (l : Nat) : Nat → Nat
  | 0 => 0
  | n + 1 => lz_cn f l n + (if f n = l then 1 else 0)
theorem lz_rn_s (d : Nat → Nat → Nat) (f : Nat → Nat) (q n : Nat) : lz_rn d f q (n + 1) = d (lz_rn d f q n) (f n) := rfl
theorem lz_hc_s (d : Nat → Nat → Nat) (m : Nat) (f : Nat → Nat) (q n : Nat) : lz_hc d m f q (n + 1) = lz_hc d m f q n + (if lz_rn d f q (n + 1) = m then 1 else 0) := rfl
theorem lz_cn_s (f : Nat → Nat) (l n : Nat) : lz_cn f l (n + 1) = lz_cn f l n + (if f n = l then 1 else 0) := rfl
theorem lz_rn_0 {d : Nat → Nat → Nat} {f : Nat → Nat} {q n : Nat} (h : n = 0) : lz_rn d f q n = q := by subst h; rfl
theorem lz_hc_0 {d : Nat → Nat → Nat} {m : Nat} {f : Nat → Nat} {q n : Nat} (h : n = 0) : lz_hc d m f q n = 0 := by subst h; rfl
theorem lz_rn_cg {d : Nat → Nat → Nat} {f g : Nat → Nat} {q : Nat} : ∀ n, (∀ j, j < n → f j = g j) → lz_rn d f q n = lz_rn d g q n := by
  intro n
  induction n with
  | zero => intro _; rfl
  | succ n ih => intro h; rw [lz_rn_s, lz_rn_s, ih (fun j hj => h j (by omega)), h n (by omega)]
theorem lz_hc_cg {d : Nat → Nat → Nat} {m : Nat} {f g : Nat → Nat} {q : Nat} : ∀ n, (∀ j, j < n → f j = g j) → lz_hc d m f q n = lz_hc d m g q n := by
  intro n
  induction n with
  | zero => intro _; rfl
  | succ n ih => intro h; rw [lz_hc_s, lz_hc_s, ih (fun j hj => h j (by omega)), lz_rn_cg (n + 1) h]
theorem lz_cn_cg {f g : Nat → Nat} {l : Nat} : ∀ n, (∀ j, j < n → f j = g j) → lz_cn f l n = lz_cn g l n := by
  intro n
  induction n with
  | zero => intro _; rfl
  | succ n ih => intro h; rw [lz_cn_s, lz_cn_s, ih (fun j hj => h j (by omega)), h n (by omega)]
theorem lz_rn_add {d : Nat → Nat → Nat} {T f : Nat → Nat} {q s : Nat} : ∀ n, (∀ j, j < n → T (s + j) = f j) → lz_rn d T q (s + n) = lz_rn d f (lz_rn d T q s) n := by
  intro n
  induction n with
  | zero => intro _; rfl
  | succ n ih => intro h; rw [← Nat.add_assoc, lz_rn_s, lz_rn_s, ih (fun j hj => h j (by omega)), h n (by omega)]
theorem lz_hc_add {d : Nat → Nat → Nat} {m : Nat} {T f : Nat → Nat} {q s : Nat} : ∀ n, (∀ j, j < n → T (s + j) = f j) → lz_hc d m T q (s + n) = lz_hc d m T q s + lz_hc d m f (lz_rn d T q s) n := by
  intro n
  induction n with
  | zero => intro _; rfl
  | succ n ih =>
    intro h
    have e := lz_rn_add (d := d) (q := q) (n + 1) h
    rw [← Nat.add_assoc] at e ⊢
    rw [lz_hc_s, lz_hc_s, ih (fun j hj => h j (by omega)), e, Nat.add_assoc]
theorem lz_cn_add {T f : Nat → Nat} {l s : Nat} : ∀ n, (∀ j, j < n → T (s + j) = f j) → lz_cn T l (s + n) = lz_cn T l s + lz_cn f l n := by
  intro n
  induction n with
  | zero => intro _; rfl
  | succ n ih =>
    intro h
    rw [← Nat.add_assoc, lz_cn_s, lz_cn_s, ih (fun j hj => h j (by omega)), h n (by omega), Nat.add_assoc]
theorem lz_hc_le (d : Nat → Nat → Nat) (m : Nat) (f : Nat → Nat) (q : Nat) : ∀ n, lz_hc d m f q n ≤ n := by
  intro n
  induction n with
  | zero => exact Nat.le_refl _
  | succ n ih => rw [lz_hc_s]; split <;> omega
theorem lz_cn_le (f : Nat → Nat) (l : Nat) : ∀ n, lz_cn f l n ≤ n := by
  intro n
  induction n with
  | zero => exact Nat.le_refl _
  | succ n ih => rw [lz_cn_s]; split <;> omega
theorem lz_rn_le {m : Nat} {W f : Nat → Nat} {q : Nat} (hq : q ≤ m) : ∀ n, lz_rn (lz_dl m W) f q n ≤ m := by
  intro n
  cases n with
  | zero => exact hq
  | succ n => rw [lz_rn_s]; exact lz_dl_le _ _ _ _
theorem lz_hc_mono (d : Nat → Nat → Nat) (m : Nat) (f : Nat → Nat) (q a : Nat) : ∀ b, lz_hc d m f q a ≤ lz_hc d m f q (a + b) := by
  intro b
  induction b with
  | zero => exact Nat.le_refl _
  | succ b ih => rw [← Nat.add_assoc, lz_hc_s]; omega
theorem lz_hc_mono' {d : Nat → Nat → Nat} {m : Nat} {f : Nat → Nat} {q a b : Nat} (h : a ≤ b) : lz_hc d m f q a ≤ lz_hc d m f q b := by
  obtain ⟨c, rfl⟩ : ∃ c, b = a + c := ⟨b - a, by omega⟩
  exact lz_hc_mono _ _ _ _ _ _
/-- the run over a text is the longest beginning of the pattern that ends it -/
theorem lz_run (m : Nat) (W T : Nat → Nat) : ∀ n, lz_LG m W T n (lz_rn (lz_dl m W) T 0 n) := by
  intro n
  induction n with
  | zero => exact lz_LG_0 m W T
  | succ n ih => exact lz_step ih
theorem lz_acc {m : Nat} {W T : Nat → Nat} {i : Nat} : lz_rn (lz_dl m W) T 0 (i + m) = m ↔ ∀ q, q < m → T (i + q) = W q := by
  have h := lz_run m W T (i + m)
  constructor
  · intro e
    rw [e] at h
    intro q hq
    rw [← h.2.1.2 q hq]
    exact congrArg T (by omega)
  · intro e
    refine Nat.le_antisymm h.1 (h.2.2 m (Nat.le_refl m) ⟨by omega, fun q hq => ?_⟩)
    rw [← e q hq]
    exact congrArg T (by omega)
theorem lz_hc_small {m : Nat} {W T : Nat → Nat} : ∀ n, n < m → lz_hc (lz_dl m W) m T 0 n = 0 := by
  intro n
  induction n with
  | zero => intro _; rfl
  | succ n ih =>
    intro h
    have h1 := (lz_run m W T (n + 1)).2.1.1
    rw [lz_hc_s, ih (by omega), if_neg (by omega)]
end
section
/-! the dictionary: phrase p has N p letters, F p 0 .. ; the text T is the phrases ph 0 .. ph C, each at st i -/
def lz_D1 (p : Nat) (N : Nat → Nat) (F : Nat → Nat → Nat) (Ap Al Az At : Nat → Int32) : Prop :=
  1 ≤ N p ∧ N p ≤ 120 ∧ Al p = nI (F p (N p - 1)) ∧ Az p = nI (N p) ∧ (∀ j, j < N p → F p j < 4) ∧
  ((Ap p = -1 ∧ N p = 1) ∨ ∃ q, q < p ∧ Ap p = nI q ∧ N p = N q + 1 ∧ ∀ j, j < N q → F p j = F q j) ∧
  ∀ l, l < 4 → At (p * 4 + l) = nI (lz_cn (F p) l (N p))
def lz_D (P : Nat) (N : Nat → Nat) (F : Nat → Nat → Nat) (Ap Al Az At : Nat → Int32) : Prop := ∀ p, p < P → lz_D1 p N F Ap Al Az At
def lz_K (A B : Nat) (N : Nat → Nat) (F : Nat → Nat → Nat) (Ac : Nat → Int32) : Prop :=
  ∀ p l, p < A → l < 4 → Ac (p * 4 + l) = -1 ∨ ∃ c, c < B ∧ Ac (p * 4 + l) = nI c ∧ N c = N p + 1 ∧ (∀ j, j < N p → F c j = F p j) ∧ F c (N p) = l
/-- the phrases of a text that isn't empty -/
def lz_V (L C P : Nat) (T N : Nat → Nat) (F : Nat → Nat → Nat) (ph st : Nat → Nat) (fO : Int32) (Ak : Nat → Int32) : Prop :=
  fO = nI (ph C) ∧ st (C + 1) = L ∧ (∀ i, i < C → Ak i = nI (ph i)) ∧
  ∀ i, i ≤ C → ph i < P ∧ st (i + 1) = st i + N (ph i) ∧ ∀ j, j < N (ph i) → T (st i + j) = F (ph i) j
def lz_G (L C P : Nat) (T N : Nat → Nat) (F : Nat → Nat → Nat) (ph st : Nat → Nat) (fO : Int32) (Ap Al Az Ac At Ak Ao : Nat → Int32) : Prop :=
  L ≤ 120 ∧ (∀ j, j < L → T j < 4) ∧ 4 ≤ P ∧ P ≤ C + 4 ∧ C ≤ 119 ∧ (∀ l, l < 4 → N l = 1 ∧ F l 0 = l) ∧ lz_D P N F Ap Al Az At ∧ lz_K P P N F Ac ∧
  st 0 = 0 ∧ (∀ i, i ≤ C → Ao i = nI (st i)) ∧ ((L = 0 ∧ C = 0 ∧ fO = -1) ∨ lz_V L C P T N F ph st fO Ak)
theorem lz_D_ext {P : Nat} {N : Nat → Nat} {F : Nat → Nat → Nat} {Ap Al Az At Ap' Al' Az' At' : Nat → Int32} (h : lz_D P N F Ap Al Az At)
    (h1 : ∀ p, p < P → Ap' p = Ap p) (h2 : ∀ p, p < P → Al' p = Al p) (h3 : ∀ p, p < P → Az' p = Az p) (h4 : ∀ j, j < P * 4 → At' j = At j)
    (h5 : lz_D1 P N F Ap' Al' Az' At') : lz_D (P + 1) N F Ap' Al' Az' At' := by
  intro p hp
  by_cases e : p = P
  · rw [e]; exact h5
  · have hp' : p < P := by omega
    obtain ⟨a1, a2, a3, a4, a5, a6, a7⟩ := h p hp'
    refine ⟨a1, a2, by rw [h2 p hp', a3], by rw [h3 p hp', a4], a5, by rw [h1 p hp']; exact a6, fun l hl => ?_⟩
    rw [h4 _ (by omega)]
    exact a7 l hl
theorem lz_D_cg {P : Nat} {N N' : Nat → Nat} {F F' : Nat → Nat → Nat} {Ap Al Az At : Nat → Int32} (h : lz_D P N F Ap Al Az At)
    (e : ∀ p, p < P → N' p = N p ∧ F' p = F p) : lz_D P N' F' Ap Al Az At := by
  intro p hp
  obtain ⟨a1, a2, a3, a4, a5, a6, a7⟩ := h p hp
  obtain ⟨e1, e2⟩ := e p hp
  unfold lz_D1
  rw [e1, e2]
  refine ⟨a1, a2, a3, a4, a5, ?_, a7⟩
  rcases a6 with a6 | ⟨q, b1, b2, b3, b4⟩
  · exact Or.inl a6
  · refine Or.inr ⟨q, b1, b2, ?_⟩
    obtain ⟨e3, e4⟩ := e q (by omega)
    rw [e3, e4]
    exact ⟨b3, b4⟩
section
variable {fP fL fC fO fM fR : Int32} {Ap Al Az Ac At Ak Ao Aw An Ad Ah : Nat → Int32}
/-- what makePhrase leaves in child and tally -/
def lz_MK (p l : Nat) (bs : Nat → Int32) (Ac At Ac' At' : Nat → Int32) : Prop :=
  (∀ k, k < 4 → Ac' (p * 4 + k) = -1) ∧ (∀ j, j < p * 4 ∨ p * 4 + 4 ≤ j → Ac' j = Ac j) ∧
  (∀ k, k < 4 → At' (p * 4 + k) = if k = l then bs k + 1 else bs k) ∧ (∀ j, j < p * 4 ∨ p * 4 + 4 ≤ j → At' j = At j)
theorem lz_mk39 {post : SX → Prop} {p l : Nat} {up : Int32} {bs : Nat → Int32} (hp : p < 128) (hl : l < 4)
    (hu : (up = -1 ∧ ∀ k, k < 4 → bs k = 0) ∨ ∃ q, q < p ∧ up = nI q ∧ ∀ k, k < 4 → bs k = At (q * 4 + k))
    (H : ∀ Ac' At', lz_MK p l bs Ac At Ac' At' → post (fP, fL, fC, fO, fM, fR, Ap, Al, Az, Ac', At', Ak, Ao, Aw, An, Ad, Ah)) :
    ∀ d i Bc Bt, i + d = 4 → (∀ k, k < i → Bc (p * 4 + k) = -1) → (∀ j, j < p * 4 ∨ p * 4 + 4 ≤ j → Bc j = Ac j) →
      (∀ k, k < i → Bt (p * 4 + k) = bs k) → (∀ j, j < p * 4 ∨ p * 4 + 4 ≤ j → Bt j = At j) →
      wX_makePhrase_39 post (nI p) up (nI l) fP fL fC fO fM fR (d + 1) (nI i) Ap Al Az Bc Bt Ak Ao Aw An Ad Ah := by
  intro d
  induction d with
  | zero =>
    intro i Bc Bt hi h1 h2 h3 h4
    have hi4 : i = 4 := by omega
    subst hi4
    have e1 : (nI p * 4 + nI l).toNatClampNeg = p * 4 + l := lz_c4 (by omega)
    have n1 : vp_in (nI p * 4 + nI l) 512 := lz_in4 (by omega) (by omega)
    refine br_t (nI_le (a := 4) (b := 4) (by omega) (by omega)) ⟨n1, n1, fun B eB => ?_⟩
    rw [e1] at eB
    subst eB
    refine H _ _ ⟨h1, h2, fun k hk => ?_, fun j hj => ?_⟩
    · by_cases e : k = l
      · rw [e, if_pos rfl, pk_us, h3 l hl]
      · rw [if_neg e, pk_un (by omega), h3 k hk]
    · rw [pk_un (by omega), h4 j hj]
  | succ d ih =>
    intro i Bc Bt hi h1 h2 h3 h4
    have e1 : (nI p * 4 + nI i).toNatClampNeg = p * 4 + i := lz_c4 (by omega)
    have n1 : vp_in (nI p * 4 + nI i) 512 := lz_in4 (by omega) (by omega)
    refine br_f (nI_ge (a := i) (b := 4) (by omega) (by omega)) ⟨n1, fun B eB => ?_⟩
    rw [e1] at eB
    subst eB
    have g1 : ∀ k, k < i + 1 → upd Bc (p * 4 + i) (-1) (p * 4 + k) = -1 := by
      intro k hk
      by_cases e : k = i
      · rw [e, pk_us]
      · rw [pk_un (by omega)]; exact h1 k (by omega)
    have g2 : ∀ j, j < p * 4 ∨ p * 4 + 4 ≤ j → upd Bc (p * 4 + i) (-1) j = Ac j := by
      intro j hj
      rw [pk_un (by omega)]; exact h2 j hj
    have g3 : ∀ k, k < i + 1 → upd Bt (p * 4 + i) (bs i) (p * 4 + k) = bs k := by
      intro k hk
      by_cases e : k = i
      · rw [e, pk_us]
      · rw [pk_un (by omega)]; exact h3 k (by omega)
    have g4 : ∀ j, j < p * 4 ∨ p * 4 + 4 ≤ j → upd Bt (p * 4 + i) (bs i) j = At j := by
      intro j hj
      rw [pk_un (by omega)]; exact h4 j hj
    have K := ih (i + 1) _ _ (by omega) g1 g2 g3 g4
    rcases hu with ⟨u1, u2⟩ | ⟨q, hq, u1, u2⟩
    · subst u1
      refine br_f lz_m1nle ⟨n1, fun B eB => ?_⟩
      rw [e1, ← u2 i (by omega)] at eB
      subst eB
      intro x ex
      rw [nI_1] at ex
      subst ex
      exact K
    · subst u1
      have e2 : (nI q * 4 + nI i).toNatClampNeg = q * 4 + i := lz_c4 (by omega)
      refine br_t (nI_pos' (by omega)) ⟨lz_in4 (by omega) (by omega), n1, fun B eB => ?_⟩
      rw [e1, e2, h4 (q * 4 + i) (by omega), ← u2 i (by omega)] at eB
      subst eB
      intro x ex
      rw [nI_1] at ex
      subst ex
      exact K
theorem lz_mk {post : SX → Prop} {p l : Nat} {up sv : Int32} {bs : Nat → Int32} (hp : p < 128) (hl : l < 4)
    (hu : (up = -1 ∧ sv = 1 ∧ ∀ k, k < 4 → bs k = 0) ∨ ∃ q, q < p ∧ up = nI q ∧ sv = Az q + 1 ∧ ∀ k, k < 4 → bs k = At (q * 4 + k))
    (H : ∀ Ac' At', lz_MK p l bs Ac At Ac' At' → post (fP, fL, fC, fO, fM, fR, upd Ap p up, upd Al p (nI l), upd Az p sv, Ac', At', Ak, Ao, Aw, An, Ad, Ah)) :
    wpX_makePhrase post (fP, fL, fC, fO, fM, fR, Ap, Al, Az, Ac, At, Ak, Ao, Aw, An, Ad, Ah) (nI p) up (nI l) := by
  have n1 : vp_in (nI p) 128 := vp_in_nI (by omega) (by omega)
  have e1 : (nI p).toNatClampNeg = p := nI_clamp (by omega)
  refine And.intro n1 fun B1 eB1 => ⟨n1, fun B2 eB2 => ?_⟩
  rw [e1] at eB1 eB2
  subst eB1 eB2
  rcases hu with ⟨u1, u3, u2⟩ | ⟨q, hq, u1, u3, u2⟩
  · subst u1 u3
    refine br_f lz_m1nle ⟨n1, fun B eB => ⟨5, ?_⟩⟩
    rw [e1] at eB
    subst eB
    exact lz_mk39 (Ac := Ac) (At := At) hp hl (Or.inl ⟨rfl, u2⟩) H 4 0 Ac At rfl (fun k hk => absurd hk (Nat.not_lt_zero k)) (fun _ _ => rfl) (fun k hk => absurd hk (Nat.not_lt_zero k)) (fun _ _ => rfl)
  · subst u1 u3
    have e2 : (nI q).toNatClampNeg = q := nI_clamp (by omega)
    refine br_t (nI_pos' (by omega)) ⟨vp_in_nI (by omega) (by omega), n1, fun B eB => ⟨5, ?_⟩⟩
    rw [e1, e2] at eB
    subst eB
    exact lz_mk39 (Ac := Ac) (At := At) hp hl (Or.inr ⟨q, hq, rfl, u2⟩) H 4 0 Ac At rfl (fun k hk => absurd hk (Nat.not_lt_zero k)) (fun _ _ => rfl) (fun k hk => absurd hk (Nat.not_lt_zero k)) (fun _ _ => rfl)
end
section
variable {fP fL fC fO fM fR : Int32} {Ap Al Az Ac At Ak Ao Aw An Ad Ah : Nat → Int32}
/-- the four letters -/
theorem lz_st27 {post : SX → Prop}
    (H : ∀ Ap Al Az Ac At, lz_D 4 (fun _ => 1) (fun p _ => p) Ap Al Az At → lz_K 4 4 (fun _ => 1) (fun p _ => p) Ac → post (fP, fL, fC, fO, fM, fR, Ap, Al, Az, Ac, At, Ak, Ao, Aw, An, Ad, Ah)) :
    ∀ d i Ap Al Az Ac At, i + d = 4 → lz_D i (fun _ => 1) (fun p _ => p) Ap Al Az At → lz_K i i (fun _ => 1) (fun p _ => p) Ac →
      (∀ p l, p < i → l < 4 → Ac (p * 4 + l) = -1) → wX_start_27 post (d + 1) (nI i) fP fL fC fO fM fR Ap Al Az Ac At Ak Ao Aw An Ad Ah := by
  intro d
  induction d with
  | zero =>
    intro i Ap Al Az Ac At hi h1 h2 _
    have hi4 : i = 4 := by omega
    subst hi4
    exact br_t (nI_le (a := 4) (b := 4) (by omega) (by omega)) (H _ _ _ _ _ h1 h2)
  | succ d ih =>
    intro i Ap Al Az Ac At hi h1 h2 h3
    refine br_f (nI_ge (a := i) (b := 4) (by omega) (by omega)) ?_
    refine lz_mk (p := i) (l := i) (sv := 1) (bs := fun _ => 0) (by omega) (by omega) (Or.inl ⟨rfl, rfl, fun _ _ => rfl⟩) ?_
    intro Ac' At' hM x ex
    obtain ⟨m1, m2, m3, m4⟩ := hM
    rw [nI_1] at ex
    subst ex
    have k3 : ∀ p l, p < i + 1 → l < 4 → Ac' (p * 4 + l) = -1 := by
      intro p l hp hl
      by_cases e : p = i
      · rw [e]; exact m1 l hl
      · rw [m2 _ (by omega)]; exact h3 p l (by omega) hl
    refine ih (i + 1) _ _ _ _ _ (by omega) ?_ (fun p l hp hl => Or.inl (k3 p l hp hl)) k3
    refine lz_D_ext h1 (fun p hp => pk_un (by omega)) (fun p hp => pk_un (by omega)) (fun p hp => pk_un (by omega)) (fun j hj => m4 j (by omega)) ?_
    refine ⟨Nat.le_refl 1, (show (1 : Nat) ≤ 120 by decide), pk_us, pk_us, fun j _ => (by show i < 4; omega), Or.inl ⟨pk_us, rfl⟩, fun l hl => ?_⟩
    rw [m3 l hl]
    show (if l = i then (0 : Int32) + 1 else 0) = nI (0 + if i = l then 1 else 0)
    by_cases e : l = i
    · rw [if_pos e, if_pos e.symm, lz_n1]
    · rw [if_neg e, if_neg (fun z => e z.symm), lz_n0]
theorem lz_start {post : SX → Prop} (ho : Ao 0 = 0)
    (H : ∀ Ap Al Az Ac At, lz_G 0 0 4 (fun _ => 0) (fun _ => 1) (fun p _ => p) (fun _ => 0) (fun _ => 0) (-1) Ap Al Az Ac At Ak Ao →
      post (4, 0, 0, -1, fM, 0, Ap, Al, Az, Ac, At, Ak, Ao, Aw, An, Ad, Ah)) : wpX_start post (fP, fL, fC, fO, fM, fR, Ap, Al, Az, Ac, At, Ak, Ao, Aw, An, Ad, Ah) := by
  refine Exists.intro 5 ?_
  refine lz_st27 (fun Ap Al Az Ac At h1 h2 => H Ap Al Az Ac At ?_) 4 0 Ap Al Az Ac At rfl (fun p hp => absurd hp (Nat.not_lt_zero p)) (fun p l hp => absurd hp (Nat.not_lt_zero p)) (fun p l hp => absurd hp (Nat.not_lt_zero p))
  refine ⟨by decide, fun j hj => absurd hj (Nat.not_lt_zero j), Nat.le_refl 4, Nat.le_refl 4, by decide, fun l _ => ⟨rfl, rfl⟩, h1, h2, rfl, fun i hi => ?_, Or.inl ⟨rfl, rfl, rfl⟩⟩
  have e : i = 0 := by omega
  subst e
  exact ho
end
end
section
/-! growing the text -/
section
variable {L C P : Nat} {T N : Nat → Nat} {F : Nat → Nat → Nat} {ph st : Nat → Nat} {fO : Int32} {Ap Al Az Ac At Ak Ao : Nat → Int32}
theorem lz_V_mono (hD : lz_D P N F Ap Al Az At) (hV : lz_V L C P T N F ph st fO Ak) : ∀ d i, i + d ≤ C + 1 → st i + d ≤ st (i + d) := by
  intro d
  induction d with
  | zero => intro i _; exact Nat.le_refl _
  | succ d ih =>
    intro i hi
    have h1 := ih i (by omega)
    obtain ⟨a, b, _⟩ := hV.2.2.2 (i + d) (by omega)
    have h2 := (hD _ a).1
    rw [show i + (d + 1) = i + d + 1 by omega]
    omega
/-- a phrase ends within the text -/
theorem lz_V_end (hD : lz_D P N F Ap Al Az At) (hV : lz_V L C P T N F ph st fO Ak) {i : Nat} (hi : i ≤ C) : st i + N (ph i) ≤ L ∧ i + 1 ≤ C + 1 ∧ st i + N (ph i) + (C - i) ≤ L := by
  have h := lz_V_mono hD hV (C - i) (i + 1) (by omega)
  have h1 := (hV.2.2.2 i hi).2.1
  have h2 := hV.2.1
  rw [show i + 1 + (C - i) = C + 1 by omega] at h
  omega
theorem lz_V_C (hD : lz_D P N F Ap Al Az At) (hV : lz_V L C P T N F ph st fO Ak) : C + 1 ≤ L := by
  have h := lz_V_mono hD hV (C + 1) 0 (by omega)
  have h2 := hV.2.1
  rw [Nat.zero_add] at h
  omega
theorem lz_up_lt {T : Nat → Nat} {L l : Nat} (hl : l < 4) (hT : ∀ j, j < L → T j < 4) : ∀ j, j < L + 1 → lz_up T L l j < 4 := by
  intro j hj
  by_cases e : j = L
  · rw [e, lz_up_s]; exact hl
  · rw [lz_up_n e]; exact hT j (by omega)
/-- the first letter -/
theorem lz_G_first {l : Nat} (hl : l < 4) (h : lz_G 0 0 P T N F ph st fO Ap Al Az Ac At Ak Ao) :
    lz_G 1 0 P (lz_up T 0 l) N F (fun _ => l) (fun i => i) (nI l) Ap Al Az Ac At Ak (upd Ao 0 0) := by
  obtain ⟨h1, h2, h3, h4, h5, h6, h7, h8, h9, h10, h11⟩ := h
  refine ⟨by decide, lz_up_lt hl h2, h3, h4, h5, h6, h7, h8, rfl, fun i hi => ?_, Or.inr ⟨rfl, rfl, fun i hi => absurd hi (Nat.not_lt_zero i), fun i hi => ⟨(by show l < P; omega), ?_, fun j hj => ?_⟩⟩⟩
  · have e : i = 0 := by omega
    subst e
    exact pk_us
  · show i + 1 = i + N l
    rw [(h6 l hl).1]
  · have hj' : j < N l := hj
    rw [(h6 l hl).1] at hj'
    show lz_up T 0 l (i + j) = F l j
    rw [show i + j = 0 by omega, show j = 0 by omega, lz_up_s, (h6 l hl).2]
/-- the phrase under way goes on -/
theorem lz_G_child {l c : Nat} (hl : l < 4) (hL : L < 120) (h : lz_G L C P T N F ph st fO Ap Al Az Ac At Ak Ao) (hV : lz_V L C P T N F ph st fO Ak)
    (hc : c < P) (c1 : N c = N (ph C) + 1) (c2 : ∀ j, j < N (ph C) → F c j = F (ph C) j) (c3 : F c (N (ph C)) = l) :
    lz_G (L + 1) C P (lz_up T L l) N F (lz_up ph C c) (lz_up st (C + 1) (L + 1)) (nI c) Ap Al Az Ac At Ak Ao := by
  obtain ⟨h1, h2, h3, h4, h5, h6, h7, h8, h9, h10, h11⟩ := h
  refine ⟨by omega, lz_up_lt hl h2, h3, h4, h5, h6, h7, h8, ?_, fun i hi => ?_, Or.inr ⟨?_, ?_, fun i hi => ?_, fun i hi => ?_⟩⟩
  · rw [lz_up_n (by omega), h9]
  · rw [lz_up_n (by omega)]; exact h10 i hi
  · rw [lz_up_s]
  · rw [lz_up_s]
  · rw [lz_up_n (by omega)]; exact hV.2.2.1 i hi
  · have hE := lz_V_end h7 hV hi
    obtain ⟨a1, a2, a3⟩ := hV.2.2.2 i hi
    by_cases e : i = C
    · subst e
      rw [lz_up_s, lz_up_s, lz_up_n (f := st) (by omega)]
      have hS := hV.2.1
      refine ⟨hc, by omega, fun j hj => ?_⟩
      by_cases z : j = N (ph i)
      · rw [z, show st i + N (ph i) = L by omega, lz_up_s, c3]
      · rw [lz_up_n (by omega), a3 j (by omega), c2 j (by omega)]
    · rw [lz_up_n (f := ph) e, lz_up_n (f := st) (by omega), lz_up_n (f := st) (by omega)]
      refine ⟨a1, a2, fun j hj => ?_⟩
      rw [lz_up_n (by omega)]
      exact a3 j hj
def lz_uF (F : Nat → Nat → Nat) (P : Nat) (f : Nat → Nat) : Nat → Nat → Nat := fun p => if p = P then f else F p
theorem lz_uF_s (F : Nat → Nat → Nat) (P : Nat) (f : Nat → Nat) : lz_uF F P f P = f := if_pos rfl
theorem lz_uF_n {F : Nat → Nat → Nat} {P : Nat} {f : Nat → Nat} {p : Nat} (h : p ≠ P) : lz_uF F P f p = F p := if_neg h
/-- a new phrase -/
theorem lz_G_new {l : Nat} {bs Ac' At' : Nat → Int32} {N' : Nat → Nat} {F' : Nat → Nat → Nat} (eN : ∀ p, p < P → N' p = N p) (eF : ∀ p, p < P → F' p = F p) (eNP : N' P = N (ph C) + 1) (eFP : F' P = lz_up (F (ph C)) (N (ph C)) l) (hl : l < 4) (hL : L < 120) (h : lz_G L C P T N F ph st fO Ap Al Az Ac At Ak Ao) (hV : lz_V L C P T N F ph st fO Ak)
    (hb : ∀ k, k < 4 → bs k = At (ph C * 4 + k)) (hM : lz_MK P l bs (upd Ac (ph C * 4 + l) (nI P)) At Ac' At') :
    lz_G (L + 1) (C + 1) (P + 1) (lz_up T L l) N' F' (lz_up ph (C + 1) l) (lz_up st (C + 2) (L + 1)) (nI l)
      (upd Ap P (nI (ph C))) (upd Al P (nI l)) (upd Az P (Az (ph C) + 1)) Ac' At' (upd Ak C (nI (ph C))) (upd Ao (C + 1) (nI L)) := by
  obtain ⟨h1, h2, h3, h4, h5, h6, h7, h8, h9, h10, h11⟩ := h
  obtain ⟨m1, m2, m3, m4⟩ := hM
  have hCL := lz_V_C h7 hV
  obtain ⟨o1, o2, o3⟩ := hV.2.2.2 C (Nat.le_refl C)
  obtain ⟨d1, d2, d3, d4, d5, d6, d7⟩ := h7 _ o1
  have hS := hV.2.1
  have hD0 : lz_D P N' F' Ap Al Az At := lz_D_cg h7 (fun p hp => ⟨eN p hp, eF p hp⟩)
  have hD : lz_D (P + 1) N' F' (upd Ap P (nI (ph C))) (upd Al P (nI l)) (upd Az P (Az (ph C) + 1)) At' := by
    refine lz_D_ext hD0 (fun p hp => pk_un (by omega)) (fun p hp => pk_un (by omega)) (fun p hp => pk_un (by omega)) (fun j hj => m4 j (by omega)) ?_
    unfold lz_D1
    rw [eNP, eFP]
    refine ⟨by omega, by omega, ?_, ?_, fun j hj => ?_, Or.inr ⟨ph C, o1, pk_us, ?_, fun j hj => ?_⟩, fun k hk => ?_⟩
    · rw [pk_us, Nat.add_sub_cancel, lz_up_s]
    · rw [pk_us, d4, nI_1]
    · by_cases e : j = N (ph C)
      · rw [e, lz_up_s]; exact hl
      · rw [lz_up_n e]; exact d5 j (by omega)
    · rw [eN _ o1]
    · rw [eN _ o1] at hj
      rw [eF _ o1, lz_up_n (by omega)]
    · rw [m3 k hk, hb k hk, d7 k hk, lz_cn_s, lz_up_s, lz_cn_cg (f := lz_up (F (ph C)) (N (ph C)) l) (g := F (ph C)) (l := k) (N (ph C)) (fun j hj => lz_up_n (by omega))]
      by_cases e : k = l
      · rw [if_pos e, if_pos e.symm, nI_1]
      · rw [if_neg e, if_neg (fun z => e z.symm), Nat.add_zero]
  have hK : lz_K (P + 1) (P + 1) N' F' Ac' := by
    intro p k hp hk
    by_cases e : p = P
    · rw [e]; exact Or.inl (m1 k hk)
    · have hp' : p < P := by omega
      rw [m2 _ (by omega), eN p hp', eF p hp']
      by_cases e2 : p * 4 + k = ph C * 4 + l
      · have e3 : p = ph C := by omega
        have e4 : k = l := by omega
        subst e4
        rw [e2, pk_us, e3]
        refine Or.inr ⟨P, by omega, rfl, ?_, fun j hj => ?_, ?_⟩
        · rw [eNP]
        · rw [eFP, lz_up_n (by omega)]
        · rw [eFP, lz_up_s]
      · rw [pk_un e2]
        rcases h8 p k hp' hk with z | ⟨c, c1, c2, c3, c4, c5⟩
        · exact Or.inl z
        · refine Or.inr ⟨c, by omega, c2, ?_⟩
          rw [eN c c1, eF c c1]
          exact ⟨c3, c4, c5⟩
  refine ⟨by omega, lz_up_lt hl h2, by omega, by omega, by omega, fun k hk => ?_, hD, hK, ?_, fun i hi => ?_, Or.inr ⟨?_, ?_, fun i hi => ?_, fun i hi => ?_⟩⟩
  · rw [eN k (by omega), eF k (by omega)]; exact h6 k hk
  · rw [lz_up_n (by omega), h9]
  · rw [lz_up_n (by omega)]
    by_cases e : i = C + 1
    · rw [e, pk_us, hS]
    · rw [pk_un e]; exact h10 i (by omega)
  · rw [lz_up_s]
  · exact lz_up_s _ _ _
  · rw [lz_up_n (by omega)]
    by_cases e : i = C
    · rw [e, pk_us]
    · rw [pk_un e]; exact hV.2.2.1 i (by omega)
  · by_cases e : i = C + 1
    · subst e
      rw [lz_up_s, lz_up_s, lz_up_n (f := st) (by omega), eN l (by omega), eF l (by omega), (h6 l hl).1, hS]
      refine ⟨by omega, rfl, fun j hj => ?_⟩
      rw [show j = 0 by omega, Nat.add_zero, lz_up_s, (h6 l hl).2]
    · have hi' : i ≤ C := by omega
      have hE := lz_V_end h7 hV hi'
      obtain ⟨a1, a2, a3⟩ := hV.2.2.2 i hi'
      rw [lz_up_n (f := ph) e, lz_up_n (f := st) (by omega), lz_up_n (f := st) (by omega), eN _ a1, eF _ a1]
      refine ⟨by omega, a2, fun j hj => ?_⟩
      rw [lz_up_n (by omega)]
      exact a3 j hj
end
section
variable {L m : Nat} {T : Nat → Nat} {fP fC fO fM fR : Int32} {Ap Al Az Ac At Ak Ao Aw An Ad Ah : Nat → Int32}
/-- the text's side of the relation, its ghosts hidden -/
def lz_R (L : Nat) (T : Nat → Nat) (fP fC fO : Int32) (Ap Al Az Ac At Ak Ao : Nat → Int32) : Prop :=
  ∃ (P C : Nat) (N : Nat → Nat) (F : Nat → Nat → Nat) (ph st : Nat → Nat), fP = nI P ∧ fC = nI C ∧ lz_G L C P T N F ph st fO Ap Al Az Ac At Ak Ao
theorem lz_app {post : Int32 → SX → Prop} {l : Nat} (hl : l < 4) (hL : L < 120) (h : lz_R L T fP fC fO Ap Al Az Ac At Ak Ao)
    (H : ∀ fP' fC' fO' Ap' Al' Az' Ac' At' Ak' Ao', lz_R (L + 1) (lz_up T L l) fP' fC' fO' Ap' Al' Az' Ac' At' Ak' Ao' →
      post (nI (L + 1)) (fP', nI (L + 1), fC', fO', fM, 0, Ap', Al', Az', Ac', At', Ak', Ao', Aw, An, Ad, Ah)) :
    wpX_append post (fP, nI L, fC, fO, fM, fR, Ap, Al, Az, Ac, At, Ak, Ao, Aw, An, Ad, Ah) (nI l) := by
  obtain ⟨P, C, N, F, ph, st, rfl, rfl, hG⟩ := h
  have hG' := hG
  obtain ⟨h1, h2, h3, h4, h5, h6, h7, h8, h9, h10, h11⟩ := hG'
  refine br_f (nI_pos (by omega)) (br_t (nI_le (b := 3) (by omega) (by omega)) (br_t (nI_lt (b := 120) hL (by omega)) ?_))
  rcases h11 with ⟨e1, e2, e3⟩ | hV
  · subst e1 e2 e3
    refine br_f lz_m1nle ⟨vp_in_nI (by omega) (by omega), fun B eB => ?_⟩
    rw [nI_clamp (by omega)] at eB
    subst eB
    intro x ex
    rw [nI_1] at ex
    subst ex
    exact H _ _ _ _ _ _ _ _ _ _ ⟨_, _, _, _, _, _, rfl, rfl, lz_G_first hl hG⟩
  · obtain ⟨o1, o2, o3⟩ := hV.2.2.2 C (Nat.le_refl C)
    have eO := hV.1
    subst eO
    have hCL := lz_V_C h7 hV
    have n1 : vp_in (nI (ph C) * 4 + nI l) 512 := lz_in4 (by omega) (by omega)
    have e1 : (nI (ph C) * 4 + nI l).toNatClampNeg = ph C * 4 + l := lz_c4 (by omega)
    refine br_t (nI_pos' (by omega)) ⟨n1, ?_⟩
    rw [e1]
    rcases h8 (ph C) l o1 hl with hc | ⟨c, c1, c2, c3, c4, c5⟩
    · rw [hc]
      refine br_t lz_m1lt ⟨n1, fun B eB => ?_⟩
      subst eB
      refine lz_mk (p := P) (l := l) (up := nI (ph C)) (sv := Az (ph C) + 1) (bs := fun k => At (ph C * 4 + k)) (by omega) hl (Or.inr ⟨ph C, o1, rfl, rfl, fun _ _ => rfl⟩) ?_
      intro Ac' At' hM x ex
      rw [nI_1] at ex
      subst ex
      refine ⟨vp_in_nI (by omega) (by omega), fun B2 eB2 => ?_⟩
      rw [nI_clamp (by omega)] at eB2
      subst eB2
      intro y ey
      rw [nI_1] at ey
      subst ey
      refine ⟨vp_in_nI (by omega) (by omega), fun B3 eB3 => ?_⟩
      rw [nI_clamp (by omega)] at eB3
      subst eB3
      intro z ez
      rw [nI_1] at ez
      subst ez
      exact H _ _ _ _ _ _ _ _ _ _ ⟨_, _, _, _, _, _, rfl, rfl, lz_G_new (N' := lz_up N P (N (ph C) + 1)) (F' := lz_uF F P (lz_up (F (ph C)) (N (ph C)) l)) (fun p hp => lz_up_n (by omega)) (fun p hp => lz_uF_n (by omega)) (lz_up_s _ _ _) (lz_uF_s _ _ _) hl hL hG hV (fun _ _ => rfl) hM⟩
    · rw [c2]
      refine br_f (nI_pos (by omega)) ⟨n1, fun y ey => ?_⟩
      subst ey
      intro z ez
      rw [nI_1] at ez
      subst ez
      exact H _ _ _ _ _ _ _ _ _ _ ⟨_, _, _, _, _, _, rfl, rfl, lz_G_child hl hL hG hV c1 c3 c4 c5⟩
end
end
section
/-! phrases of the text -/
section
variable {L C P m : Nat} {T N : Nat → Nat} {F : Nat → Nat → Nat} {ph st : Nat → Nat} {fO fM fR : Int32} {Ap Al Az Ac At Ak Ao Aw An Ad Ah : Nat → Int32}
theorem lz_phAt {post : Int32 → Prop} (hC : C ≤ 119) (hV : lz_V L C P T N F ph st fO Ak) {i : Nat} (hi : i ≤ C) (hp : post (nI (ph i))) :
    wpX_phraseAt post (nI P, nI L, nI C, fO, fM, fR, Ap, Al, Az, Ac, At, Ak, Ao, Aw, An, Ad, Ah) (nI i) := by
  by_cases e : C ≤ i
  · have e2 : i = C := by omega
    subst e2
    refine br_t (nI_le (by omega) (by omega)) ?_
    rw [hV.1]
    exact hp
  · refine br_f (nI_ge (by omega) (by omega)) ⟨vp_in_nI (by omega) (by omega), ?_⟩
    rw [nI_clamp (by omega), hV.2.2.1 i (by omega)]
    exact hp
theorem lz_hold7 {post : Int32 → Prop} {x : Nat} (hx : x < 2 ^ 31) (hC : C ≤ 119) (hso : ∀ i, i ≤ C → Ao i = nI (st i)) (hsb : ∀ i, i ≤ C → st i ≤ 120)
    (H : ∀ i, i ≤ C → st i ≤ x → (i = C ∨ x < st (i + 1)) → post (nI i)) :
    ∀ n a b, a ≤ b → b ≤ C → b - a < n → st a ≤ x → (b = C ∨ x < st (b + 1)) → wX_phraseHolding_7 post (nI x) (nI P) (nI L) (nI C) fO fM fR Ap Al Az Ac At Ak Ao Aw An Ad Ah n (nI a) (nI b) := by
  intro n
  induction n with
  | zero => intro a b _ _ h; omega
  | succ n ih =>
    intro a b hab hb hn h1 h2
    refine pk_le b a (fun e => ?_) (fun e => ?_)
    · have e2 : a = b := by omega
      subst e2
      exact H a hb h1 h2
    · refine ⟨by decide, fun y ey => ?_⟩
      rw [nI_add, nI_1, show (2 : Int32) = nI 2 from rfl, pk_div (by omega) (by omega) (by omega)] at ey
      subst ey
      have m1 : a < (a + b + 1) / 2 := by omega
      have m2 : (a + b + 1) / 2 ≤ b := by omega
      generalize (a + b + 1) / 2 = c at m1 m2 ⊢
      refine ⟨vp_in_nI (by omega) (by omega), ?_⟩
      rw [nI_clamp (by omega), hso c (by omega)]
      have hc := hsb c (by omega)
      refine pk_lt x (st c) (fun e3 => ?_) (fun e3 => ?_)
      · obtain ⟨c', rfl⟩ : ∃ c', c = c' + 1 := ⟨c - 1, by omega⟩
        intro z ez
        rw [nI_pred] at ez
        subst ez
        exact ih a c' (by omega) (by omega) (by omega) h1 (Or.inr e3)
      · exact ih c b (by omega) hb (by omega) e3 h2
theorem lz_hold {post : Int32 → Prop} {x : Nat} (hx : x < 2 ^ 31) (hC : C ≤ 119) (h0 : st 0 = 0) (hso : ∀ i, i ≤ C → Ao i = nI (st i)) (hsb : ∀ i, i ≤ C → st i ≤ 120)
    (H : ∀ i, i ≤ C → st i ≤ x → (i = C ∨ x < st (i + 1)) → post (nI i)) : wpX_phraseHolding post (nI P, nI L, nI C, fO, fM, fR, Ap, Al, Az, Ac, At, Ak, Ao, Aw, An, Ad, Ah) (nI x) :=
  Exists.intro (C + 1) (lz_hold7 hx hC hso hsb H (C + 1) 0 C (Nat.zero_le _) (Nat.le_refl _) (by omega) (by omega) (Or.inl rfl))
theorem lz_beg2 {k : Nat} (hk0 : 1 ≤ k) (hk : k < 2 ^ 31) (hP : P ≤ 128) (hD : lz_D P N F Ap Al Az At) {fP fL fC : Int32} :
    ∀ n p (post : Int32 → Prop), p < n → p < P → (∀ q, q < P → N q ≤ N p → N q = min (N p) k → (∀ j, j < N q → F q j = F p j) → post (nI q)) →
      wX_beginning_2 post (nI k) fP fL fC fO fM fR Ap Al Az Ac At Ak Ao Aw An Ad Ah n (nI p) := by
  intro n
  induction n with
  | zero => intro p post h; omega
  | succ n ih =>
    intro p post hpn hp H
    obtain ⟨d1, d2, d3, d4, d5, d6, d7⟩ := hD p hp
    have n1 : vp_in (nI p) 128 := vp_in_nI (by omega) (by omega)
    refine And.intro n1 ?_
    rw [nI_clamp (by omega), d4]
    refine pk_le (N p) k (fun e => ?_) (fun e => ⟨n1, fun x ex => ?_⟩)
    · exact H p hp (Nat.le_refl _) (by omega) (fun _ _ => rfl)
    · rcases d6 with ⟨_, z⟩ | ⟨q, q1, q2, q3, q4⟩
      · omega
      · rw [q2] at ex
        subst ex
        refine ih q post (by omega) (by omega) (fun r r1 r2 r3 r4 => H r r1 (by omega) (by omega) (fun j hj => ?_))
        rw [r4 j hj, q4 j (by omega)]
theorem lz_beg {post : Int32 → Prop} {p k : Nat} (hk0 : 1 ≤ k) (hk : k < 2 ^ 31) (hP : P ≤ 128) (hD : lz_D P N F Ap Al Az At) {fP fL fC : Int32} (hp : p < P)
    (H : ∀ q, q < P → N q ≤ N p → N q = min (N p) k → (∀ j, j < N q → F q j = F p j) → post (nI q)) : wpX_beginning post (fP, fL, fC, fO, fM, fR, Ap, Al, Az, Ac, At, Ak, Ao, Aw, An, Ad, Ah) (nI p) (nI k) :=
  Exists.intro (p + 1) (lz_beg2 hk0 hk hP hD (p + 1) p post (Nat.lt_succ_self p) hp H)
/-- letterAt within the text -/
theorem lz_let {post : Int32 → Prop} {x : Nat} (hG : lz_G L C P T N F ph st fO Ap Al Az Ac At Ak Ao) (hx : x < L) (hp : post (nI (T x))) :
    wpX_letterAt post (nI P, nI L, nI C, fO, fM, fR, Ap, Al, Az, Ac, At, Ak, Ao, Aw, An, Ad, Ah) (nI x) := by
  obtain ⟨h1, h2, h3, h4, h5, h6, h7, h8, h9, h10, h11⟩ := hG
  rcases h11 with ⟨e1, _, _⟩ | hV
  · omega
  have hsb : ∀ i, i ≤ C → st i ≤ 120 := fun i hi => by
    have := lz_V_end h7 hV hi
    omega
  refine br_f (nI_pos (by omega)) (br_t (nI_lt hx (by omega)) ?_)
  refine lz_hold (by omega) h5 h9 h10 hsb (fun i i1 i2 i3 => ?_)
  refine lz_phAt h5 hV i1 ⟨vp_in_nI (by omega) (by omega), ?_⟩
  obtain ⟨o1, o2, o3⟩ := hV.2.2.2 i i1
  have hxi : x < st i + N (ph i) := by
    rcases i3 with z | z
    · have := hV.2.1
      rw [← z] at this
      omega
    · omega
  rw [nI_clamp (by omega), h10 i i1, pk_sub i2, nI_1]
  refine lz_beg (by omega) (by omega) (by omega) h7 o1 (fun q q1 q2 q3 q4 => ⟨vp_in_nI (by omega) (by omega), ?_⟩)
  have d3 := (h7 q q1).2.2.1
  rw [nI_clamp (by omega), d3, show N q - 1 = x - st i by omega, q4 (x - st i) (by omega), ← o3 (x - st i) (by omega), show st i + (x - st i) = x by omega]
  exact hp
theorem lz_letOut {post : Int32 → Prop} {x : Int32} (hL : L ≤ 120) {fP fC : Int32} (hx : x < 0 ∨ nI L ≤ x) (hp : post (-4)) : wpX_letterAt post (fP, nI L, fC, fO, fM, fR, Ap, Al, Az, Ac, At, Ak, Ao, Aw, An, Ad, Ah) x := by
  rcases hx with h | h
  · exact br_t h hp
  · have h0 : ¬ x < 0 := Int32.not_lt.mpr (Int32.le_trans (nI_pos' (by omega)) h)
    exact br_f h0 (br_f (Int32.not_lt.mpr h) hp)
end
/-- the text behind i letters of a repeat from a -/
def lz_rp (T : Nat → Nat) (L a : Nat) : Nat → Nat → Nat
  | 0 => T
  | i + 1 => lz_up (lz_rp T L a i) (L + i) (lz_rp T L a i (a + i))
section
variable {L m : Nat} {T : Nat → Nat} {fP fC fO fM fR : Int32} {Ap Al Az Ac At Ak Ao Aw An Ad Ah : Nat → Int32}
theorem lz_rep42 {post : Int32 → SX → Prop} {a k : Nat} (ha : a < L) (hk : L + k ≤ 120)
    (H : ∀ fP fC fO fR Ap Al Az Ac At Ak Ao, (0 < k → fR = 0) → lz_R (L + k) (lz_rp T L a k) fP fC fO Ap Al Az Ac At Ak Ao → post (nI (L + k)) (fP, nI (L + k), fC, fO, fM, fR, Ap, Al, Az, Ac, At, Ak, Ao, Aw, An, Ad, Ah)) :
    ∀ d i fP fC fO fR Ap Al Az Ac At Ak Ao, i + d = k → (0 < i → fR = 0) → lz_R (L + i) (lz_rp T L a i) fP fC fO Ap Al Az Ac At Ak Ao →
      wX_repeat_42 post (nI a) (nI k) (d + 1) (nI i) fP (nI (L + i)) fC fO fM fR Ap Al Az Ac At Ak Ao Aw An Ad Ah := by
  intro d
  induction d with
  | zero =>
    intro i fP fC fO fR Ap Al Az Ac At Ak Ao hi hr hR
    have hik : i = k := by omega
    subst hik
    exact br_t (nI_le (by omega) (by omega)) (H _ _ _ _ _ _ _ _ _ _ _ hr hR)
  | succ d ih =>
    intro i fP fC fO fR Ap Al Az Ac At Ak Ao hi hr hR
    refine br_f (nI_ge (by omega) (by omega)) ?_
    rw [nI_add a i]
    have hR' := hR
    obtain ⟨P, C, N, F, ph, st, rfl, rfl, hG⟩ := hR'
    refine lz_let hG (by omega) ?_
    refine lz_app (hG.2.1 _ (by omega)) (by omega) hR ?_
    intro fP' fC' fO' Ap' Al' Az' Ac' At' Ak' Ao' hR2 x ex
    rw [nI_1] at ex
    subst ex
    exact ih (i + 1) _ _ _ _ _ _ _ _ _ _ _ (by omega) (fun _ => rfl) hR2
end
end
section
/-! buildAutomaton -/
def lz_NX (m : Nat) (W : Nat → Nat) (An : Nat → Int32) : Prop := ∀ q l, q ≤ m → l < 4 → An (q * 4 + l) = nI (lz_dl m W q l)
section
variable {m : Nat} {W : Nat → Nat} {fP fL fC fO fR : Int32} {Ap Al Az Ac At Ak Ao Aw An Ad Ah : Nat → Int32}
/-- the store of one cell -/
theorem lz_nx_st {q l : Nat} {B : Nat → Int32} {v : Int32} (h1 : ∀ p k, p < q → k < 4 → B (p * 4 + k) = nI (lz_dl m W p k)) (h2 : ∀ k, k < l → B (q * 4 + k) = nI (lz_dl m W q k))
    (hv : v = nI (lz_dl m W q l)) :
    (∀ p k, p < q → k < 4 → upd B (q * 4 + l) v (p * 4 + k) = nI (lz_dl m W p k)) ∧ (∀ k, k < l + 1 → upd B (q * 4 + l) v (q * 4 + k) = nI (lz_dl m W q k)) := by
  constructor
  · intro p k hp hk
    rw [pk_un (by omega)]; exact h1 p k hp hk
  · intro k hk
    by_cases e : k = l
    · rw [e, pk_us, hv]
    · rw [pk_un (by omega)]; exact h2 k (by omega)
theorem lz_ba53 {post : SX → Prop} {J : Int32 → Int32 → (Nat → Int32) → (Nat → Int32) → (Nat → Int32) → (Nat → Int32) → (Nat → Int32) → (Nat → Int32) → (Nat → Int32) → (Nat → Int32) → (Nat → Int32) → (Nat → Int32) → (Nat → Int32) → Prop}
    {q b : Nat} (hm : m ≤ 10) (hW : ∀ j, j < m → Aw j = nI (W j) ∧ W j < 4) (hq0 : 1 ≤ q) (hq : q ≤ m) (hb : lz_LG m W (fun i => W (i + 1)) (q - 1) b)
    (H : ∀ An' b', (∀ p k, p < q + 1 → k < 4 → An' (p * 4 + k) = nI (lz_dl m W p k)) → (q + 1 ≤ m → lz_LG m W (fun i => W (i + 1)) q b') → J (nI b') (nI (q + 1)) Ap Al Az Ac At Ak Ao Aw An' Ad Ah) :
    ∀ d l B, l + d = 4 → (∀ p k, p < q → k < 4 → B (p * 4 + k) = nI (lz_dl m W p k)) → (∀ k, k < l → B (q * 4 + k) = nI (lz_dl m W q k)) →
      wX_buildAutomaton_53 post J (nI b) (nI q) fP fL fC fO (nI m) fR (d + 1) (nI l) Ap Al Az Ac At Ak Ao Aw B Ad Ah := by
  have hbq : b ≤ q - 1 := hb.2.1.1
  intro d
  induction d with
  | zero =>
    intro l B hl h1 h2
    have hl4 : l = 4 := by omega
    subst hl4
    have h3 : ∀ p k, p < q + 1 → k < 4 → B (p * 4 + k) = nI (lz_dl m W p k) := by
      intro p k hp hk
      by_cases e : p = q
      · rw [e]; exact h2 k hk
      · exact h1 p k (by omega) hk
    refine br_t (nI_le (a := 4) (b := 4) (by omega) (by omega)) ?_
    refine pk_le m q (fun e => ?_) (fun e => ?_)
    · intro x ex
      rw [nI_1] at ex
      subst ex
      exact H B b h3 (fun z => by omega)
    · obtain ⟨w1, w2⟩ := hW q e
      refine ⟨vp_in_nI (by omega) (by omega), ?_⟩
      rw [nI_clamp (by omega), w1]
      refine ⟨lz_in4 (by omega) (by omega), ?_⟩
      rw [lz_c4 (by omega), h1 b (W q) (by omega) w2]
      intro x ex
      subst ex
      intro y ey
      rw [nI_1] at ey
      subst ey
      refine H B _ h3 (fun z => ?_)
      have hs : lz_LG m W (fun i => W (i + 1)) (q - 1 + 1) (lz_dl m W b (W (q - 1 + 1))) := lz_step hb
      rw [show q - 1 + 1 = q by omega] at hs
      exact hs
  | succ d ih =>
    intro l B hl h1 h2
    have n1 : vp_in (nI q * 4 + nI l) 44 := lz_in4 (by omega) (by omega)
    have e1 : (nI q * 4 + nI l).toNatClampNeg = q * 4 + l := lz_c4 (by omega)
    have n2 : vp_in (nI b * 4 + nI l) 44 := lz_in4 (by omega) (by omega)
    have e2 : (nI b * 4 + nI l).toNatClampNeg = b * 4 + l := lz_c4 (by omega)
    have hfall : ¬ (q < m ∧ W q = l) → wX_buildAutomaton_80 post J (wX_buildAutomaton_53 post J (nI b) (nI q) fP fL fC fO (nI m) fR (d + 1)) (nI b) (nI q) (nI l) fP fL fC fO (nI m) fR Ap Al Az Ac At Ak Ao Aw B Ad Ah := by
      intro hn
      refine br_t (c := (0 : Int32) = 0) rfl ⟨n2, n1, fun B2 eB => ?_⟩
      rw [e1, e2] at eB
      subst eB
      intro x ex
      rw [nI_1] at ex
      subst ex
      obtain ⟨g1, g2⟩ := lz_nx_st (v := B (b * 4 + l)) h1 h2 (by rw [h1 b l (by omega) (by omega), lz_dl_back hq0 hb hn])
      exact ih (l + 1) _ (by omega) g1 g2
    refine br_f (nI_ge (a := l) (b := 4) (by omega) (by omega)) ?_
    refine pk_le m q (fun e => ?_) (fun e => ?_)
    · exact hfall (fun z => by omega)
    · obtain ⟨w1, w2⟩ := hW q e
      refine ⟨vp_in_nI (by omega) (by omega), ?_⟩
      rw [nI_clamp (by omega), w1]
      refine pk_eq (W q) l (fun z => ?_) (fun z => hfall (fun y => z y.2))
      refine br_f (c := (1 : Int32) = 0) (by decide) ⟨n1, fun B2 eB => ?_⟩
      rw [e1, nI_1] at eB
      subst eB
      intro x ex
      rw [nI_1] at ex
      subst ex
      obtain ⟨g1, g2⟩ := lz_nx_st (v := nI (q + 1)) h1 h2 (by rw [lz_dl_on e z])
      exact ih (l + 1) _ (by omega) g1 g2
theorem lz_ba43 {post : SX → Prop} (hm : m ≤ 10) (hW : ∀ j, j < m → Aw j = nI (W j) ∧ W j < 4)
    (H : ∀ An', lz_NX m W An' → post (fP, fL, fC, fO, nI m, fR, Ap, Al, Az, Ac, At, Ak, Ao, Aw, An', Ad, Ah)) :
    ∀ d q b B, q + d = m + 1 → 1 ≤ q → (∀ p k, p < q → k < 4 → B (p * 4 + k) = nI (lz_dl m W p k)) → (q ≤ m → lz_LG m W (fun i => W (i + 1)) (q - 1) b) →
      wX_buildAutomaton_43 post fP fL fC fO (nI m) fR (d + 1) (nI b) (nI q) Ap Al Az Ac At Ak Ao Aw B Ad Ah := by
  intro d
  induction d with
  | zero =>
    intro q b B hq h0 h1 h2
    refine br_t (nI_lt (by omega) (by omega)) (H B (fun p k hp hk => h1 p k (by omega) hk))
  | succ d ih =>
    intro q b B hq h0 h1 h2
    refine br_f (nI_nlt (by omega) (by omega)) ⟨5, ?_⟩
    refine lz_ba53 hm hW h0 (by omega) (h2 (by omega)) (fun An' b' g1 g2 => ih (q + 1) b' An' (by omega) (by omega) g1 (fun z => ?_)) 4 0 B rfl h1 (fun k hk => absurd hk (Nat.not_lt_zero k))
    exact g2 z
theorem lz_ba7 {post : SX → Prop} (hm0 : 1 ≤ m) (hm : m ≤ 10) (hW : ∀ j, j < m → Aw j = nI (W j) ∧ W j < 4)
    (H : ∀ An', lz_NX m W An' → post (fP, fL, fC, fO, nI m, fR, Ap, Al, Az, Ac, At, Ak, Ao, Aw, An', Ad, Ah)) :
    ∀ d l B, l + d = 4 → (∀ k, k < l → B k = nI (lz_dl m W 0 k)) → wX_buildAutomaton_7 post fP fL fC fO (nI m) fR (d + 1) (nI l) Ap Al Az Ac At Ak Ao Aw B Ad Ah := by
  intro d
  induction d with
  | zero =>
    intro l B hl h1
    have hl4 : l = 4 := by omega
    subst hl4
    refine br_t (nI_le (a := 4) (b := 4) (by omega) (by omega)) ⟨m + 1, ?_⟩
    refine lz_ba43 hm hW H m 1 0 B (by omega) (by omega) (fun p k hp hk => ?_) (fun _ => lz_LG_0 m W _)
    rw [show p = 0 by omega, Nat.zero_mul, Nat.zero_add]
    exact h1 k hk
  | succ d ih =>
    intro l B hl h1
    obtain ⟨w1, w2⟩ := hW 0 (by omega)
    have n1 : vp_in (nI l) 44 := vp_in_nI (by omega) (by omega)
    have e1 : (nI l).toNatClampNeg = l := nI_clamp (by omega)
    have g : ∀ v, v = nI (lz_dl m W 0 l) → ∀ k, k < l + 1 → upd B l v k = nI (lz_dl m W 0 k) := by
      intro v hv k hk
      by_cases e : k = l
      · rw [e, pk_us, hv]
      · rw [pk_un e]; exact h1 k (by omega)
    refine br_f (nI_ge (a := l) (b := 4) (by omega) (by omega)) ?_
    rw [w1]
    refine pk_eq (W 0) l (fun z => ⟨n1, fun B2 eB => ?_⟩) (fun z => ⟨n1, fun B2 eB => ?_⟩)
    · rw [e1] at eB
      subst eB
      intro x ex
      rw [nI_1] at ex
      subst ex
      exact ih (l + 1) _ (by omega) (g 1 (by rw [lz_dl_0 hm0, if_pos z]; rfl))
    · rw [e1] at eB
      subst eB
      intro x ex
      rw [nI_1] at ex
      subst ex
      exact ih (l + 1) _ (by omega) (g 0 (by rw [lz_dl_0 hm0, if_neg z]; rfl))
theorem lz_ba {post : SX → Prop} (hm0 : 1 ≤ m) (hm : m ≤ 10) (hW : ∀ j, j < m → Aw j = nI (W j) ∧ W j < 4)
    (H : ∀ An', lz_NX m W An' → post (fP, fL, fC, fO, nI m, 0, Ap, Al, Az, Ac, At, Ak, Ao, Aw, An', Ad, Ah)) : wpX_buildAutomaton post (fP, fL, fC, fO, nI m, fR, Ap, Al, Az, Ac, At, Ak, Ao, Aw, An, Ad, Ah) :=
  Exists.intro 5 (lz_ba7 hm0 hm hW H 4 0 An rfl (fun k hk => absurd hk (Nat.not_lt_zero k)))
end
end
section
/-! fill and prepare -/
/-- the tables of the phrases below P -/
def lz_TB (P m : Nat) (W N : Nat → Nat) (F : Nat → Nat → Nat) (Ad Ah : Nat → Int32) : Prop :=
  ∀ p q, p < P → q ≤ m → Ad (p * 11 + q) = nI (lz_rn (lz_dl m W) (F p) q (N p)) ∧ Ah (p * 11 + q) = nI (lz_hc (lz_dl m W) m (F p) q (N p))
section
variable {P m : Nat} {W N : Nat → Nat} {F : Nat → Nat → Nat} {fP fL fC fO fR : Int32} {Ap Al Az Ac At Ak Ao Aw An Ad Ah : Nat → Int32}
theorem lz_fill67 {post : SX → Prop} {p q s b l : Nat} (hm : m ≤ 10) (hp : p < 128) (hq : q ≤ m) (hs : s ≤ m) (hb : b < 120) (hl : l < 4) (eL : Al p = nI l) (hN : lz_NX m W An)
    (H : post (fP, fL, fC, fO, nI m, fR, Ap, Al, Az, Ac, At, Ak, Ao, Aw, An, upd Ad (p * 11 + q) (nI (lz_dl m W s l)), upd Ah (p * 11 + q) (nI (b + if lz_dl m W s l = m then 1 else 0)))) :
    wX_fill_67 post (nI p) (nI (p * 11 + q)) (nI s) (nI b) fP fL fC fO (nI m) fR Ap Al Az Ac At Ak Ao Aw An Ad Ah := by
  have n1 : vp_in (nI p) 128 := vp_in_nI (by omega) (by omega)
  have n2 : vp_in (nI (p * 11 + q)) 1408 := vp_in_nI (by omega) (by omega)
  have e2 : (nI (p * 11 + q)).toNatClampNeg = p * 11 + q := nI_clamp (by omega)
  have hd := lz_dl_le m W s l
  refine And.intro n1 ?_
  rw [nI_clamp (n := p) (by omega), eL]
  refine ⟨lz_in4 (by omega) (by omega), ?_⟩
  rw [lz_c4 (by omega), hN s l hs hl]
  intro x ex
  subst ex
  refine ⟨n2, fun B eB => ?_⟩
  rw [e2, lz_byte (by omega)] at eB
  subst eB
  refine pk_eq (lz_dl m W s l) m (fun z => ⟨n2, fun B2 eB2 => ?_⟩) (fun z => ⟨n2, fun B2 eB2 => ?_⟩)
  · rw [e2, nI_1, lz_byte (by omega)] at eB2
    subst eB2
    rw [if_pos z] at H
    exact H
  · rw [e2, lz_byte (by omega)] at eB2
    subst eB2
    rw [if_neg z] at H
    exact H
theorem lz_fill {post : SX → Prop} {p q : Nat} (hm : m ≤ 10) (hP : P ≤ 128) (hp : p < P) (hq : q ≤ m) (hD : lz_D P N F Ap Al Az At) (hN : lz_NX m W An) (hT : lz_TB p m W N F Ad Ah)
    (H : post (fP, fL, fC, fO, nI m, fR, Ap, Al, Az, Ac, At, Ak, Ao, Aw, An, upd Ad (p * 11 + q) (nI (lz_rn (lz_dl m W) (F p) q (N p))), upd Ah (p * 11 + q) (nI (lz_hc (lz_dl m W) m (F p) q (N p))))) :
    wpX_fill post (fP, fL, fC, fO, nI m, fR, Ap, Al, Az, Ac, At, Ak, Ao, Aw, An, Ad, Ah) (nI p) (nI q) := by
  obtain ⟨d1, d2, d3, d4, d5, d6, d7⟩ := hD p hp
  have n1 : vp_in (nI p) 128 := vp_in_nI (by omega) (by omega)
  have e1 : (nI p).toNatClampNeg = p := nI_clamp (by omega)
  have key : ∀ s b, s = lz_rn (lz_dl m W) (F p) q (N p - 1) → b = lz_hc (lz_dl m W) m (F p) q (N p - 1) →
      wX_fill_67 post (nI p) (nI (p * 11 + q)) (nI s) (nI b) fP fL fC fO (nI m) fR Ap Al Az Ac At Ak Ao Aw An Ad Ah := by
    intro s b es eb
    obtain ⟨n, hn⟩ : ∃ n, N p = n + 1 := ⟨N p - 1, by omega⟩
    rw [hn, Nat.add_sub_cancel] at es eb d3
    rw [hn] at d5 H
    have hs : s ≤ m := by rw [es]; exact lz_rn_le hq n
    have hb : b ≤ n := by rw [eb]; exact lz_hc_le _ _ _ _ n
    rw [lz_hc_s, lz_rn_s, ← es, ← eb] at H
    exact lz_fill67 hm (by omega) hq hs (by omega) (d5 n (by omega)) d3 hN H
  intro x ex
  rw [lz_ix11] at ex
  subst ex
  refine ⟨n1, ?_⟩
  rw [e1]
  rcases d6 with ⟨z1, z2⟩ | ⟨r, r1, r2, r3, r4⟩
  · rw [z1]
    refine br_f lz_m1nle (And.intro n1 ?_)
    rw [e1, z1]
    refine br_f lz_m1nle ?_
    exact key q 0 (lz_rn_0 (by omega)).symm (lz_hc_0 (by omega)).symm
  · obtain ⟨t1, t2⟩ := hT r q r1 hq
    have n2 : vp_in (nI r * 11 + nI q) 1408 := lz_in11 (by omega) (by omega)
    have e2 : (nI r * 11 + nI q).toNatClampNeg = r * 11 + q := lz_c11 (by omega)
    rw [r2]
    refine br_t (nI_pos' (by omega)) ⟨n1, n2, And.intro n1 ?_⟩
    rw [e1, r2]
    refine br_t (nI_pos' (by omega)) ⟨n1, n2, ?_⟩
    rw [e2, t1, t2]
    refine key _ _ ?_ ?_
    · rw [r3, Nat.add_sub_cancel]; exact (lz_rn_cg _ r4).symm
    · rw [r3, Nat.add_sub_cancel]; exact (lz_hc_cg _ r4).symm
theorem lz_prep25 {post : SX → Prop} {J : Int32 → Int32 → Int32 → Int32 → Int32 → Int32 → Int32 → (Nat → Int32) → (Nat → Int32) → (Nat → Int32) → (Nat → Int32) → (Nat → Int32) → (Nat → Int32) → (Nat → Int32) → (Nat → Int32) → (Nat → Int32) → (Nat → Int32) → (Nat → Int32) → Prop}
    {p : Nat} (hm : m ≤ 10) (hP : P ≤ 128) (hp : p < P) (hD : lz_D P N F Ap Al Az At) (hN : lz_NX m W An)
    (H : ∀ Ad Ah, lz_TB (p + 1) m W N F Ad Ah → J (nI (p + 1)) fP fL fC fO (nI m) fR Ap Al Az Ac At Ak Ao Aw An Ad Ah) :
    ∀ d q Ad Ah, q + d = m + 1 → lz_TB p m W N F Ad Ah →
      (∀ k, k < q → Ad (p * 11 + k) = nI (lz_rn (lz_dl m W) (F p) k (N p)) ∧ Ah (p * 11 + k) = nI (lz_hc (lz_dl m W) m (F p) k (N p))) →
      wX_prepare_25 post J (nI p) (d + 1) (nI q) fP fL fC fO (nI m) fR Ap Al Az Ac At Ak Ao Aw An Ad Ah := by
  intro d
  induction d with
  | zero =>
    intro q Ad Ah hq h1 h2
    refine br_t (nI_lt (by omega) (by omega)) ?_
    intro x ex
    rw [nI_1] at ex
    subst ex
    refine H Ad Ah (fun r k hr hk => ?_)
    by_cases e : r = p
    · rw [e]; exact h2 k (by omega)
    · exact h1 r k (by omega) hk
  | succ d ih =>
    intro q Ad Ah hq h1 h2
    refine br_f (nI_nlt (by omega) (by omega)) ?_
    refine lz_fill hm hP hp (by omega) hD hN h1 ?_
    intro x ex
    rw [nI_1] at ex
    subst ex
    refine ih (q + 1) _ _ (by omega) (fun r k hr hk => ?_) (fun k hk => ?_)
    · rw [pk_un (by omega), pk_un (by omega)]; exact h1 r k hr hk
    · by_cases e : k = q
      · rw [e, pk_us, pk_us]; exact ⟨rfl, rfl⟩
      · rw [pk_un (by omega), pk_un (by omega)]; exact h2 k (by omega)
theorem lz_prep15 {post : SX → Prop} (hm : m ≤ 10) (hP : P ≤ 128) (hD : lz_D P N F Ap Al Az At) (hN : lz_NX m W An)
    (H : ∀ Ad Ah, lz_TB P m W N F Ad Ah → post (nI P, fL, fC, fO, nI m, fR, Ap, Al, Az, Ac, At, Ak, Ao, Aw, An, Ad, Ah)) :
    ∀ d p Ad Ah, p + d = P → lz_TB p m W N F Ad Ah → wX_prepare_15 post (d + 1) (nI p) (nI P) fL fC fO (nI m) fR Ap Al Az Ac At Ak Ao Aw An Ad Ah := by
  intro d
  induction d with
  | zero =>
    intro p Ad Ah hp h1
    have hpP : p = P := by omega
    subst hpP
    exact br_t (nI_le (by omega) (by omega)) (H Ad Ah h1)
  | succ d ih =>
    intro p Ad Ah hp h1
    refine br_f (nI_ge (by omega) (by omega)) ⟨m + 2, ?_⟩
    exact lz_prep25 hm hP (by omega) hD hN (fun Ad Ah h => ih (p + 1) Ad Ah (by omega) h) (m + 1) 0 Ad Ah (by omega) h1 (fun k hk => absurd hk (Nat.not_lt_zero k))
theorem lz_prep {post : SX → Prop} (hm : m ≤ 10) (hP : P ≤ 128) (hD : lz_D P N F Ap Al Az At) (hN : lz_NX m W An) (hR : ¬ fR = 0 → lz_TB P m W N F Ad Ah)
    (H : ∀ fR Ad Ah, lz_TB P m W N F Ad Ah → post (nI P, fL, fC, fO, nI m, fR, Ap, Al, Az, Ac, At, Ak, Ao, Aw, An, Ad, Ah)) : wpX_prepare post (nI P, fL, fC, fO, nI m, fR, Ap, Al, Az, Ac, At, Ak, Ao, Aw, An, Ad, Ah) := by
  refine br_c (fun e => ⟨P + 1, ?_⟩) (fun e => H fR Ad Ah (hR e))
  exact lz_prep15 hm hP hD hN (fun Ad Ah h => H 1 Ad Ah h) P 0 Ad Ah (by omega) (fun p q hp => absurd hp (Nat.not_lt_zero p))
end
end
section
/-! the component's questions -/
section
variable {L C P m : Nat} {T W N : Nat → Nat} {F : Nat → Nat → Nat} {ph st : Nat → Nat} {fO fM fR : Int32} {Ap Al Az Ac At Ak Ao Aw An Ad Ah : Nat → Int32}
theorem lz_clamp0 {post : Int32 → Prop} {x fP fC : Int32} (hx : x < 0) (hp : post (nI 0)) : wpX_clampLength post (fP, nI L, fC, fO, fM, fR, Ap, Al, Az, Ac, At, Ak, Ao, Aw, An, Ad, Ah) x :=
  br_f (Int32.not_le.mpr hx) hp
theorem lz_clampN {post : Int32 → Prop} {k : Nat} {fP fC : Int32} (hk : k < 2 ^ 31) (hL : L ≤ 120) (hp : post (nI (min k L))) : wpX_clampLength post (fP, nI L, fC, fO, fM, fR, Ap, Al, Az, Ac, At, Ak, Ao, Aw, An, Ad, Ah) (nI k) := by
  refine br_t (nI_pos' hk) (pk_le k L (fun e => ?_) (fun e => ?_))
  · rw [Nat.min_eq_left e] at hp; exact hp
  · rw [Nat.min_eq_right (by omega)] at hp; exact hp
/-- the phrases from i on, of the text's first k letters -/
theorem lz_fr23 {post : Int32 → Prop} {l k : Nat} (hl : l < 4) (hkL : k ≤ L) (hG : lz_G L C P T N F ph st fO Ap Al Az Ac At Ak Ao) (hV : lz_V L C P T N F ph st fO Ak)
    (hp : post (nI (lz_cn T l k))) :
    ∀ d i, i + d = C + 1 → wX_frequency_23 post (nI l) (nI k) (nI P) (nI L) (nI C) fO fM fR Ap Al Az Ac At Ak Ao Aw An Ad Ah (d + 1) (nI (lz_cn T l (min k (st i)))) (nI i) := by
  obtain ⟨h1, h2, h3, h4, h5, h6, h7, h8, h9, h10, h11⟩ := hG
  have hS := hV.2.1
  intro d
  induction d with
  | zero =>
    intro i hi
    have hi' : i = C + 1 := by omega
    subst hi'
    refine br_t (nI_lt (by omega) (by omega)) ?_
    rw [hS, Nat.min_eq_left hkL]
    exact hp
  | succ d ih =>
    intro i hi
    have hE := lz_V_end h7 hV (show i ≤ C by omega)
    refine br_f (nI_nlt (by omega) (by omega)) ⟨vp_in_nI (by omega) (by omega), ?_⟩
    rw [nI_clamp (by omega), h10 i (by omega)]
    refine pk_le k (st i) (fun e => ?_) (fun e => ?_)
    · rw [Nat.min_eq_left e]
      exact hp
    · obtain ⟨o1, o2, o3⟩ := hV.2.2.2 i (by omega)
      refine lz_phAt h5 hV (by omega) ⟨vp_in_nI (by omega) (by omega), ?_⟩
      rw [pk_sub (by omega)]
      refine lz_beg (by omega) (by omega) (by omega) h7 o1 (fun q q1 q2 q3 q4 => ?_)
      have d7 := (h7 q q1).2.2.2.2.2.2
      refine ⟨lz_in4 (by omega) (by omega), ?_⟩
      rw [lz_c4 (by omega), d7 l hl, nI_add]
      have hc := lz_cn_add (T := T) (f := F q) (l := l) (s := st i) (N q) (fun j hj => by rw [q4 j hj]; exact o3 j (by omega))
      rw [Nat.min_eq_right (by omega), ← hc, show st i + N q = min k (st (i + 1)) by omega]
      intro x ex
      subst ex
      intro y ey
      rw [nI_1] at ey
      subst ey
      exact ih (i + 1) (by omega)
theorem lz_cw31 {post : Int32 → SX → Prop} {k : Nat} (hm : m ≤ 10) (hkL : k ≤ L) (hG : lz_G L C P T N F ph st fO Ap Al Az Ac At Ak Ao) (hV : lz_V L C P T N F ph st fO Ak) (hT : lz_TB P m W N F Ad Ah)
    (hp : post (nI (lz_hc (lz_dl m W) m T 0 k)) (nI P, nI L, nI C, fO, nI m, fR, Ap, Al, Az, Ac, At, Ak, Ao, Aw, An, Ad, Ah)) :
    ∀ d i, i + d = C + 1 → wX_countWithin_31 post (nI k) (nI P) (nI L) (nI C) fO (nI m) fR Ap Al Az Ac At Ak Ao Aw An Ad Ah (d + 1) (nI (lz_rn (lz_dl m W) T 0 (min k (st i)))) (nI (lz_hc (lz_dl m W) m T 0 (min k (st i)))) (nI i) := by
  obtain ⟨h1, h2, h3, h4, h5, h6, h7, h8, h9, h10, h11⟩ := hG
  have hS := hV.2.1
  intro d
  induction d with
  | zero =>
    intro i hi
    have hi' : i = C + 1 := by omega
    subst hi'
    refine br_t (nI_lt (by omega) (by omega)) ?_
    rw [hS, Nat.min_eq_left hkL]
    exact hp
  | succ d ih =>
    intro i hi
    have hE := lz_V_end h7 hV (show i ≤ C by omega)
    refine br_f (nI_nlt (by omega) (by omega)) ⟨vp_in_nI (by omega) (by omega), ?_⟩
    rw [nI_clamp (by omega), h10 i (by omega)]
    refine pk_le k (st i) (fun e => ?_) (fun e => ?_)
    · rw [Nat.min_eq_left e]
      exact hp
    · obtain ⟨o1, o2, o3⟩ := hV.2.2.2 i (by omega)
      refine lz_phAt h5 hV (by omega) ⟨vp_in_nI (by omega) (by omega), ?_⟩
      rw [pk_sub (by omega)]
      refine lz_beg (by omega) (by omega) (by omega) h7 o1 (fun q q1 q2 q3 q4 => ?_)
      have hf : ∀ j, j < N q → T (st i + j) = F q j := fun j hj => by rw [q4 j hj]; exact o3 j (by omega)
      have c1 := lz_rn_add (d := lz_dl m W) (q := 0) (N q) hf
      have c2 := lz_hc_add (d := lz_dl m W) (m := m) (q := 0) (N q) hf
      have hr : lz_rn (lz_dl m W) T 0 (st i) ≤ m := lz_rn_le (Nat.zero_le m) _
      have K := ih (i + 1) (by omega)
      rw [show min k (st (i + 1)) = st i + N q by omega, c1, c2] at K
      rw [Nat.min_eq_right (show st i ≤ k by omega)]
      obtain ⟨t1, t2⟩ := hT q _ q1 hr
      refine ⟨lz_in11 (by omega) (by omega), ?_⟩
      rw [lz_c11 (by omega), t1, t2, nI_add]
      intro x ex
      subst ex
      refine ⟨lz_in11 (by omega) (by omega), ?_⟩
      intro y ey
      subst ey
      intro z ez
      rw [nI_1] at ez
      subst ez
      exact K
theorem lz_ov24 {post : Int32 → SX → Prop} (hm : m ≤ 10) (hG : lz_G L C P T N F ph st fO Ap Al Az Ac At Ak Ao) (hV : lz_V L C P T N F ph st fO Ak) (hT : lz_TB P m W N F Ad Ah)
    (hp : post (nI (lz_rn (lz_dl m W) T 0 L)) (nI P, nI L, nI C, fO, nI m, fR, Ap, Al, Az, Ac, At, Ak, Ao, Aw, An, Ad, Ah)) :
    ∀ d i, i + d = C + 1 → wX_overlap_24 post (nI P) (nI L) (nI C) fO (nI m) fR Ap Al Az Ac At Ak Ao Aw An Ad Ah (d + 1) (nI (lz_rn (lz_dl m W) T 0 (st i))) (nI i) := by
  obtain ⟨h1, h2, h3, h4, h5, h6, h7, h8, h9, h10, h11⟩ := hG
  have hS := hV.2.1
  intro d
  induction d with
  | zero =>
    intro i hi
    have hi' : i = C + 1 := by omega
    subst hi'
    refine br_t (nI_lt (by omega) (by omega)) ?_
    rw [hS]
    exact hp
  | succ d ih =>
    intro i hi
    refine br_f (nI_nlt (by omega) (by omega)) ?_
    obtain ⟨o1, o2, o3⟩ := hV.2.2.2 i (by omega)
    have c1 := lz_rn_add (d := lz_dl m W) (q := 0) _ o3
    have hr : lz_rn (lz_dl m W) T 0 (st i) ≤ m := lz_rn_le (Nat.zero_le m) _
    have K := ih (i + 1) (by omega)
    rw [o2, c1] at K
    obtain ⟨t1, t2⟩ := hT _ _ o1 hr
    refine lz_phAt h5 hV (by omega) ⟨lz_in11 (by omega) (by omega), ?_⟩
    rw [lz_c11 (by omega), t1]
    intro x ex
    subst ex
    intro y ey
    rw [nI_1] at ey
    subst ey
    exact K
/-- endInside: the shortest beginning with more than x occurrences -/
theorem lz_end3 {q x : Nat} (hm : m ≤ 10) (hq : q ≤ m) (hx : x < 2 ^ 31) (hP : P ≤ 128) (hD : lz_D P N F Ap Al Az At) (hT : lz_TB P m W N F Ad Ah) {fP fL fC : Int32} :
    ∀ n p (post : Int32 → Prop), p < n → p < P → x < lz_hc (lz_dl m W) m (F p) q (N p) →
      (∀ j, 1 ≤ j → j ≤ N p → x < lz_hc (lz_dl m W) m (F p) q j → lz_hc (lz_dl m W) m (F p) q (j - 1) ≤ x → post (nI j)) →
      wX_endInside_3 post (nI q) (nI x) fP fL fC fO fM fR Ap Al Az Ac At Ak Ao Aw An Ad Ah n (nI p) := by
  intro n
  induction n with
  | zero => intro p post h; omega
  | succ n ih =>
    intro p post hpn hp hh H
    obtain ⟨d1, d2, d3, d4, d5, d6, d7⟩ := hD p hp
    have n1 : vp_in (nI p) 128 := vp_in_nI (by omega) (by omega)
    refine And.intro n1 ?_
    rw [nI_clamp (by omega)]
    rcases d6 with ⟨z1, z2⟩ | ⟨r, r1, r2, r3, r4⟩
    · rw [z1, d4]
      refine br_t lz_m1lt ⟨n1, H (N p) d1 (Nat.le_refl _) hh ?_⟩
      rw [lz_hc_0 (by omega)]
      exact Nat.zero_le _
    · obtain ⟨t1, t2⟩ := hT r q (by omega) hq
      have hb := lz_hc_le (lz_dl m W) m (F r) q (N r)
      have hc := lz_hc_cg (d := lz_dl m W) (m := m) (q := q) (N r) r4
      rw [r2, d4]
      refine br_f (nI_pos (by omega)) ⟨n1, lz_in11 (by omega) (by omega), ?_⟩
      rw [lz_c11 (by omega), t2]
      refine pk_le (lz_hc (lz_dl m W) m (F r) q (N r)) x (fun e => ⟨n1, ?_⟩) (fun e => ⟨n1, fun y ey => ?_⟩)
      · refine H (N p) d1 (Nat.le_refl _) hh ?_
        rw [r3, Nat.add_sub_cancel, hc]
        exact e
      · subst ey
        refine ih r post (by omega) (by omega) e (fun j j1 j2 j3 j4 => H j j1 (by omega) ?_ ?_)
        · rw [lz_hc_cg j (fun i hi => r4 i (by omega))]; exact j3
        · rw [lz_hc_cg (j - 1) (fun i hi => r4 i (by omega))]; exact j4
theorem lz_po32 {post : Int32 → SX → Prop} {x : Nat} (hx : x < 2 ^ 31) (hm : m ≤ 10) (hG : lz_G L C P T N F ph st fO Ap Al Az Ac At Ak Ao) (hV : lz_V L C P T N F ph st fO Ak) (hT : lz_TB P m W N F Ad Ah)
    (H0 : lz_hc (lz_dl m W) m T 0 L ≤ x → post (-4) (nI P, nI L, nI C, fO, nI m, fR, Ap, Al, Az, Ac, At, Ak, Ao, Aw, An, Ad, Ah))
    (H1 : ∀ j, 1 ≤ j → j ≤ L → x < lz_hc (lz_dl m W) m T 0 j → lz_hc (lz_dl m W) m T 0 (j - 1) ≤ x → post (nI j - nI m) (nI P, nI L, nI C, fO, nI m, fR, Ap, Al, Az, Ac, At, Ak, Ao, Aw, An, Ad, Ah)) :
    ∀ d i, i + d = C + 1 → lz_hc (lz_dl m W) m T 0 (st i) ≤ x →
      wX_position_32 post (nI P) (nI L) (nI C) fO (nI m) fR Ap Al Az Ac At Ak Ao Aw An Ad Ah (d + 1) (nI (lz_rn (lz_dl m W) T 0 (st i))) (nI (x - lz_hc (lz_dl m W) m T 0 (st i))) (nI i) := by
  obtain ⟨h1, h2, h3, h4, h5, h6, h7, h8, h9, h10, h11⟩ := hG
  have hS := hV.2.1
  intro d
  induction d with
  | zero =>
    intro i hi hle
    have hi' : i = C + 1 := by omega
    subst hi'
    refine br_t (nI_lt (by omega) (by omega)) (H0 ?_)
    rw [← hS]
    exact hle
  | succ d ih =>
    intro i hi hle
    have hE := lz_V_end h7 hV (show i ≤ C by omega)
    refine br_f (nI_nlt (by omega) (by omega)) ?_
    obtain ⟨o1, o2, o3⟩ := hV.2.2.2 i (by omega)
    have c1 := lz_rn_add (d := lz_dl m W) (q := 0) _ o3
    have c2 := lz_hc_add (d := lz_dl m W) (m := m) (q := 0) _ o3
    have hr : lz_rn (lz_dl m W) T 0 (st i) ≤ m := lz_rn_le (Nat.zero_le m) _
    have hb := lz_hc_le (lz_dl m W) m (F (ph i)) (lz_rn (lz_dl m W) T 0 (st i)) (N (ph i))
    have hN := (h7 _ o1).2.1
    have K := ih (i + 1) (by omega)
    rw [o2, c1, c2] at K
    obtain ⟨t1, t2⟩ := hT _ _ o1 hr
    refine lz_phAt h5 hV (by omega) ⟨lz_in11 (by omega) (by omega), ?_⟩
    rw [lz_c11 (by omega), t1, t2]
    intro y ey
    subst ey
    refine pk_le (lz_hc (lz_dl m W) m (F (ph i)) (lz_rn (lz_dl m W) T 0 (st i)) (N (ph i))) (x - lz_hc (lz_dl m W) m T 0 (st i)) (fun e => ?_) (fun e => ?_)
    · rw [pk_sub e]
      intro z ez
      subst ez
      refine ⟨lz_in11 (by omega) (by omega), ?_⟩
      intro z ez
      subst ez
      intro w ew
      rw [nI_1] at ew
      subst ew
      rw [Nat.sub_sub]
      exact K (by omega)
    · refine ⟨vp_in_nI (by omega) (by omega), ?_⟩
      rw [nI_clamp (by omega), h10 i (by omega)]
      refine Exists.intro (ph i + 1) (lz_end3 hm hr (by omega) (by omega) h7 hT (ph i + 1) (ph i) _ (Nat.lt_succ_self _) o1 e (fun j j1 j2 j3 j4 => ?_))
      rw [nI_add]
      have c3 := lz_hc_add (d := lz_dl m W) (m := m) (q := 0) j (fun k hk => o3 k (by omega))
      have c4 := lz_hc_add (d := lz_dl m W) (m := m) (q := 0) (j - 1) (fun k hk => o3 k (by omega))
      refine H1 (st i + j) (by omega) (by omega) (by omega) ?_
      rw [show st i + j - 1 = st i + (j - 1) by omega]
      omega
end
end
section
/-! the reference's walks -/
theorem lz_lt3 (x : Int32) : x < 0 ∨ (¬ x < 0 ∧ 3 < x ∧ ¬ x ≤ 3) ∨ ∃ l : Nat, l < 4 ∧ x = nI l := by
  by_cases h : x < 0
  · exact Or.inl h
  · by_cases h3 : x ≤ 3
    · obtain ⟨j, hj, e⟩ := nI_of2 (n := 3) (by decide) h h3
      exact Or.inr (Or.inr ⟨j, by omega, e⟩)
    · exact Or.inr (Or.inl ⟨h, Int32.not_le.mp h3, h3⟩)
/-- W's first k letters stand at i -/
def lz_oc (L : Nat) (T W : Nat → Nat) (i k : Nat) : Prop := ∀ q, q < k → i + q < L ∧ T (i + q) = W q
theorem lz_oc_le {L : Nat} {T W : Nat → Nat} {i k : Nat} (hk : 0 < k) (h : lz_oc L T W i k) : i + k ≤ L := by
  have := (h (k - 1) (by omega)).1
  omega
theorem lz_hc_yes {L m : Nat} {T W : Nat → Nat} {i : Nat} (hm : 0 < m) (h : lz_oc L T W i m) :
    lz_hc (lz_dl m W) m T 0 (i + m) = lz_hc (lz_dl m W) m T 0 (i + m - 1) + 1 := by
  obtain ⟨n, hn⟩ : ∃ n, i + m = n + 1 := ⟨i + m - 1, by omega⟩
  have e : lz_rn (lz_dl m W) T 0 (i + m) = m := lz_acc.mpr (fun q hq => (h q hq).2)
  rw [hn] at e ⊢
  rw [lz_hc_s, if_pos e, Nat.add_sub_cancel]
theorem lz_hc_no {L m : Nat} {T W : Nat → Nat} {i : Nat} (hm : 0 < m) (hL : i + m ≤ L) (h : ¬ lz_oc L T W i m) :
    lz_hc (lz_dl m W) m T 0 (i + m) = lz_hc (lz_dl m W) m T 0 (i + m - 1) := by
  obtain ⟨n, hn⟩ : ∃ n, i + m = n + 1 := ⟨i + m - 1, by omega⟩
  have e : ¬ lz_rn (lz_dl m W) T 0 (i + m) = m := fun z => h (fun q hq => ⟨by omega, lz_acc.mp z q hq⟩)
  rw [hn] at e ⊢
  rw [lz_hc_s, if_neg e, Nat.add_sub_cancel, Nat.add_zero]
theorem lz_lg_cap (W f : Nat → Nat) (n : Nat) : ∀ d, lz_lg W f n (n + d) = lz_lg W f n n := by
  intro d
  induction d with
  | zero => rfl
  | succ d ih =>
    have e : lz_lg W f n (n + d + 1) = lz_lg W f n (n + d) := if_neg (fun h => by have := h.1; omega)
    rw [← Nat.add_assoc, e, ih]
section
variable {L m : Nat} {T W : Nat → Nat} {g Aw : Nat → Int32}
theorem lz_yis {post : Int32 → Prop} {l : Nat} (hl : l < 4) {v : SY} (hp : post 1) : wpY_isLetter post v (nI l) :=
  br_f (nI_pos (by omega)) (br_f (nI_nlt (a := 3) (by omega) (by omega)) hp)
theorem lz_yis0 {post : Int32 → Prop} {x : Int32} (hx : x < 0 ∨ 3 < x) {v : SY} (hp : post 0) : wpY_isLetter post v x :=
  br_c (fun _ => hp) (fun h => br_t (hx.resolve_left h) hp)
theorem lz_yapp {post : Int32 → SY → Prop} {l : Nat} (hl : l < 4) (hL : L < 120) (hp : post (nI (L + 1)) (nI (L + 1), nI m, upd g L (nI l), Aw)) :
    wpY_append post (nI L, nI m, g, Aw) (nI l) := by
  unfold wpY_append
  dsimp only
  refine lz_yis hl ?_
  refine br_f (c := (1 : Int32) = 0) (by decide) (br_f (fun e => ?_) ⟨vp_in_nI (by omega) (by omega), fun B eB => ?_⟩)
  · have := (nI_eq (a := L) (b := 120) (by omega) (by omega)).mp e
    omega
  · rw [nI_clamp (by omega)] at eB
    subst eB
    intro x ex
    rw [nI_1] at ex
    subst ex
    exact hp
theorem lz_yappBad {post : Int32 → SY → Prop} {x : Int32} (hx : x < 0 ∨ 3 < x) (hp : post (-1) (nI L, nI m, g, Aw)) : wpY_append post (nI L, nI m, g, Aw) x := by
  unfold wpY_append
  dsimp only
  exact lz_yis0 hx (br_t (c := (0 : Int32) = 0) rfl hp)
theorem lz_yappFull {post : Int32 → SY → Prop} {l : Nat} (hl : l < 4) (hL : L = 120) (hp : post (-2) (nI L, nI m, g, Aw)) : wpY_append post (nI L, nI m, g, Aw) (nI l) := by
  subst hL
  unfold wpY_append
  dsimp only
  exact lz_yis hl (br_f (c := (1 : Int32) = 0) (by decide) (br_t (c := nI 120 = 120) rfl hp))
theorem lz_ypat {post : Int32 → SY → Prop} {l : Nat} (hl : l < 4) (hm : m < 10) (hp : post (nI (m + 1)) (nI L, nI (m + 1), g, upd Aw m (nI l))) :
    wpY_pattern post (nI L, nI m, g, Aw) (nI l) := by
  unfold wpY_pattern
  dsimp only
  refine lz_yis hl ?_
  refine br_f (c := (1 : Int32) = 0) (by decide) (br_f (fun e => ?_) ⟨vp_in_nI (by omega) (by omega), fun B eB => ?_⟩)
  · have := (nI_eq (a := m) (b := 10) (by omega) (by omega)).mp e
    omega
  · rw [nI_clamp (by omega)] at eB
    subst eB
    intro x ex
    rw [nI_1] at ex
    subst ex
    exact hp
theorem lz_ypatBad {post : Int32 → SY → Prop} {x : Int32} (hx : x < 0 ∨ 3 < x) (hp : post (-1) (nI L, nI m, g, Aw)) : wpY_pattern post (nI L, nI m, g, Aw) x := by
  unfold wpY_pattern
  dsimp only
  exact lz_yis0 hx (br_t (c := (0 : Int32) = 0) rfl hp)
theorem lz_ypatFull {post : Int32 → SY → Prop} {l : Nat} (hl : l < 4) (hm : m = 10) (hp : post (-2) (nI L, nI m, g, Aw)) : wpY_pattern post (nI L, nI m, g, Aw) (nI l) := by
  subst hm
  unfold wpY_pattern
  dsimp only
  exact lz_yis hl (br_f (c := (1 : Int32) = 0) (by decide) (br_t (c := nI 10 = 10) rfl hp))
theorem lz_yrep42 {post : Int32 → SY → Prop} {a k : Nat} (ha : a < L) (hk : L + k ≤ 120) (hT : ∀ j, j < L → T j < 4)
    (H : ∀ g, (∀ j, j < L + k → g j = nI (lz_rp T L a k j)) → post (nI (L + k)) (nI (L + k), nI m, g, Aw)) :
    ∀ d i g, i + d = k → (∀ j, j < L + i → g j = nI (lz_rp T L a i j) ∧ lz_rp T L a i j < 4) → wY_repeat_42 post (nI a) (nI k) (d + 1) (nI i) (nI (L + i)) (nI m) g Aw := by
  intro d
  induction d with
  | zero =>
    intro i g hi hg
    have hik : i = k := by omega
    subst hik
    exact br_t (nI_le (by omega) (by omega)) (H g (fun j hj => (hg j hj).1))
  | succ d ih =>
    intro i g hi hg
    obtain ⟨w1, w2⟩ := hg (a + i) (by omega)
    refine br_f (nI_ge (by omega) (by omega)) ?_
    rw [nI_add, nI_clamp (by omega), w1]
    refine ⟨vp_in_nI (by omega) (by omega), ?_⟩
    refine lz_yapp w2 (by omega) ?_
    intro x ex
    rw [nI_1] at ex
    subst ex
    refine ih (i + 1) _ (by omega) (fun j hj => ?_)
    show upd g (L + i) _ j = nI (lz_up (lz_rp T L a i) (L + i) (lz_rp T L a i (a + i)) j) ∧ lz_up (lz_rp T L a i) (L + i) (lz_rp T L a i (a + i)) j < 4
    by_cases e : j = L + i
    · rw [e, pk_us, lz_up_s]; exact ⟨rfl, w2⟩
    · rw [pk_un e, lz_up_n e]; exact hg j (by omega)
theorem lz_ylet {post : Int32 → Prop} {j : Nat} (hj : j < 2 ^ 31) (hL : L ≤ 120) (hg : ∀ j, j < L → g j = nI (T j)) (h1 : j < L → post (nI (T j))) (h2 : L ≤ j → post (-4)) :
    wpY_letterAt post (nI L, nI m, g, Aw) (nI j) := by
  refine br_f (nI_pos hj) (pk_le L j h2 (fun e => ⟨vp_in_nI (by omega) (by omega), ?_⟩))
  rw [nI_clamp hj, hg j e]
  exact h1 e
theorem lz_ysd2 {post : Int32 → Prop} {i k : Nat} (hi : i ≤ 120) (hk : k ≤ m) (hm : m ≤ 10) (hL : L ≤ 120) (hg : ∀ j, j < L → g j = nI (T j)) (hT : ∀ j, j < L → T j < 4)
    (hW : ∀ j, j < m → Aw j = nI (W j) ∧ W j < 4) (h1 : lz_oc L T W i k → post 1) (h0 : ¬ lz_oc L T W i k → post 0) :
    ∀ d q, q + d = k → lz_oc L T W i q → wY_stands_2 post (nI i) (nI k) (nI L) (nI m) g Aw (d + 1) (nI q) := by
  intro d
  induction d with
  | zero =>
    intro q hq ho
    have hqk : q = k := by omega
    subst hqk
    exact br_t (nI_le (by omega) (by omega)) (h1 ho)
  | succ d ih =>
    intro q hq ho
    obtain ⟨w1, w2⟩ := hW q (by omega)
    refine br_f (nI_ge (by omega) (by omega)) ?_
    rw [nI_add]
    refine lz_ylet (by omega) hL hg (fun e => ⟨vp_in_nI (by omega) (by omega), ?_⟩) (fun e => ⟨vp_in_nI (by omega) (by omega), ?_⟩)
    · have ht := hT _ e
      rw [nI_clamp (by omega), w1]
      refine pk_eq (T (i + q)) (W q) (fun z => ?_) (fun z => h0 (fun y => z (y q (by omega)).2))
      intro x ex
      rw [nI_1] at ex
      subst ex
      refine ih (q + 1) (by omega) (fun r hr => ?_)
      by_cases c : r = q
      · rw [c]; exact ⟨e, z⟩
      · exact ho r (by omega)
    · rw [nI_clamp (by omega), w1]
      refine br_f (fun z => lz_nIne (a := W q) (x := -4) (by omega) (by decide) z.symm) (h0 (fun y => ?_))
      have := (y q (by omega)).1
      omega
theorem lz_ysd {post : Int32 → Prop} {i k : Nat} (hi : i ≤ 120) (hk : k ≤ m) (hm : m ≤ 10) (hL : L ≤ 120) (hg : ∀ j, j < L → g j = nI (T j)) (hT : ∀ j, j < L → T j < 4)
    (hW : ∀ j, j < m → Aw j = nI (W j) ∧ W j < 4) (h1 : lz_oc L T W i k → post 1) (h0 : ¬ lz_oc L T W i k → post 0) : wpY_stands post (nI L, nI m, g, Aw) (nI i) (nI k) :=
  Exists.intro (k + 1) (lz_ysd2 hi hk hm hL hg hT hW h1 h0 k 0 (by omega) (fun q hq => absurd hq (Nat.not_lt_zero q)))
theorem lz_yoc {post : Int32 → Prop} {i : Nat} (hi : i ≤ 120) (hm0 : 0 < m) (hm : m ≤ 10) (hL : L ≤ 120) (hg : ∀ j, j < L → g j = nI (T j)) (hT : ∀ j, j < L → T j < 4)
    (hW : ∀ j, j < m → Aw j = nI (W j) ∧ W j < 4) (h1 : lz_oc L T W i m → post 1) (h0 : ¬ lz_oc L T W i m → post 0) : wpY_occurs post (nI L, nI m, g, Aw) (nI i) := by
  refine br_f (nI_nle hm0 (by omega)) ?_
  exact lz_ysd hi (Nat.le_refl m) hm hL hg hT hW (fun z => br_f (c := (1 : Int32) = 0) (by decide) (h1 z)) (fun z => br_t (c := (0 : Int32) = 0) rfl (h0 z))
theorem lz_yoc0 {post : Int32 → Prop} {x : Int32} (h0 : post 0) : wpY_occurs post (nI L, nI 0, g, Aw) x :=
  br_t (c := nI 0 ≤ 0) (by decide) h0
theorem lz_ycw4 {post : Int32 → Prop} {x : Int32} {K : Nat} (hm0 : 0 < m) (hm : m ≤ 10) (hL : L ≤ 120) (hg : ∀ j, j < L → g j = nI (T j)) (hT : ∀ j, j < L → T j < 4)
    (hW : ∀ j, j < m → Aw j = nI (W j) ∧ W j < 4) (hK : K ≤ L) (hx : ∀ i, 0 < i → i ≤ L → (x < nI i ↔ K < i)) (hp : post (nI (lz_hc (lz_dl m W) m T 0 K))) :
    ∀ d i, i + d = L → wY_countWithin_4 post x (nI L) (nI m) g Aw (d + 1) (nI (lz_hc (lz_dl m W) m T 0 (min (i + m - 1) K))) (nI i) := by
  intro d
  induction d with
  | zero =>
    intro i hi
    have hiL : i = L := by omega
    subst hiL
    refine br_t (nI_le (by omega) (by omega)) ?_
    rw [Nat.min_eq_right (by omega)]
    exact hp
  | succ d ih =>
    intro i hi
    have K1 := ih (i + 1) (by omega)
    rw [show i + 1 + m - 1 = i + m by omega] at K1
    refine br_f (nI_ge (by omega) (by omega)) ?_
    refine lz_yoc (by omega) hm0 hm hL hg hT hW (fun z => ?_) (fun z => ?_)
    · refine br_f (c := (1 : Int32) = 0) (by decide) ?_
      have hz := lz_oc_le hm0 z
      rw [nI_add]
      refine br_c (fun c => ?_) (fun c => ?_)
      · have c2 := (hx _ (by omega) hz).mp c
        intro y ey
        rw [nI_1] at ey
        subst ey
        rw [Nat.min_eq_right (show K ≤ i + m by omega)] at K1
        rw [Nat.min_eq_right (show K ≤ i + m - 1 by omega)]
        exact K1
      · have c2 : ¬ K < i + m := fun w => c ((hx _ (by omega) hz).mpr w)
        rw [Nat.min_eq_left (show i + m ≤ K by omega), lz_hc_yes hm0 z] at K1
        rw [Nat.min_eq_left (show i + m - 1 ≤ K by omega), nI_1, nI_1]
        intro y ey
        subst ey
        intro w ew
        subst ew
        exact K1
    · refine br_t (c := (0 : Int32) = 0) rfl ?_
      intro y ey
      rw [nI_1] at ey
      subst ey
      by_cases c : i + m ≤ K
      · rw [Nat.min_eq_left c, lz_hc_no (L := L) hm0 (by omega) z] at K1
        rw [Nat.min_eq_left (show i + m - 1 ≤ K by omega)]
        exact K1
      · rw [Nat.min_eq_right (show K ≤ i + m by omega)] at K1
        rw [Nat.min_eq_right (show K ≤ i + m - 1 by omega)]
        exact K1
theorem lz_ycw {post : Int32 → Prop} {x : Int32} {K : Nat} (hm0 : 0 < m) (hm : m ≤ 10) (hL : L ≤ 120) (hg : ∀ j, j < L → g j = nI (T j)) (hT : ∀ j, j < L → T j < 4)
    (hW : ∀ j, j < m → Aw j = nI (W j) ∧ W j < 4) (hK : K ≤ L) (hx : ∀ i, 0 < i → i ≤ L → (x < nI i ↔ K < i)) (hp : post (nI (lz_hc (lz_dl m W) m T 0 K))) : wpY_countWithin post (nI L, nI m, g, Aw) x := by
  have h := lz_ycw4 hm0 hm hL hg hT hW hK hx hp L 0 (by omega)
  rw [lz_hc_small _ (show min (0 + m - 1) K < m by omega)] at h
  exact Exists.intro (L + 1) h
theorem lz_ycw0 {post : Int32 → Prop} {x : Int32} (hL : L ≤ 120) (hp : post 0) : wpY_countWithin post (nI L, nI 0, g, Aw) x := by
  have h : ∀ d i, i + d = L → wY_countWithin_4 post x (nI L) (nI 0) g Aw (d + 1) 0 (nI i) := by
    intro d
    induction d with
    | zero => intro i hi; exact br_t (nI_le (by omega) (by omega)) hp
    | succ d ih =>
      intro i hi
      refine br_f (nI_ge (by omega) (by omega)) (lz_yoc0 (br_t (c := (0 : Int32) = 0) rfl ?_))
      intro y ey
      rw [nI_1] at ey
      subst ey
      exact ih (i + 1) (by omega)
  exact Exists.intro (L + 1) (h L 0 (by omega))
theorem lz_ypo4 {post : Int32 → Prop} {x : Int32} (hm0 : 0 < m) (hm : m ≤ 10) (hL : L ≤ 120) (hg : ∀ j, j < L → g j = nI (T j)) (hT : ∀ j, j < L → T j < 4)
    (hW : ∀ j, j < m → Aw j = nI (W j) ∧ W j < 4)
    (H0 : (∀ i, i < L → lz_oc L T W i m → ¬ nI (lz_hc (lz_dl m W) m T 0 (i + m - 1)) = x) → post (-4))
    (H1 : ∀ i, i < L → lz_oc L T W i m → nI (lz_hc (lz_dl m W) m T 0 (i + m - 1)) = x → post (nI i)) :
    ∀ d i, i + d = L → (∀ j, j < i → lz_oc L T W j m → ¬ nI (lz_hc (lz_dl m W) m T 0 (j + m - 1)) = x) →
      wY_position_4 post x (nI L) (nI m) g Aw (d + 1) (nI (lz_hc (lz_dl m W) m T 0 (min (i + m - 1) L))) (nI i) := by
  intro d
  induction d with
  | zero =>
    intro i hi hn
    have hiL : i = L := by omega
    subst hiL
    exact br_t (nI_le (by omega) (by omega)) (H0 hn)
  | succ d ih =>
    intro i hi hn
    have K1 := ih (i + 1) (by omega)
    rw [show i + 1 + m - 1 = i + m by omega] at K1
    refine br_f (nI_ge (by omega) (by omega)) ?_
    refine lz_yoc (by omega) hm0 hm hL hg hT hW (fun z => ?_) (fun z => ?_)
    · refine br_f (c := (1 : Int32) = 0) (by decide) ?_
      have hz := lz_oc_le hm0 z
      rw [Nat.min_eq_left (show i + m - 1 ≤ L by omega)]
      refine br_c (fun c => H1 i (by omega) z c) (fun c => ?_)
      rw [Nat.min_eq_left hz, lz_hc_yes hm0 z] at K1
      rw [nI_1, nI_1]
      intro y ey
      subst ey
      intro w ew
      subst ew
      refine K1 (fun j hj ho => ?_)
      by_cases e : j = i
      · rw [e]; exact c
      · exact hn j (by omega) ho
    · refine br_t (c := (0 : Int32) = 0) rfl ?_
      intro y ey
      rw [nI_1] at ey
      subst ey
      have K2 := K1 (fun j hj ho => by
        by_cases e : j = i
        · rw [e] at ho; exact absurd ho z
        · exact hn j (by omega) ho)
      by_cases c : i + m ≤ L
      · rw [Nat.min_eq_left c, lz_hc_no (L := L) hm0 c z] at K2
        rw [Nat.min_eq_left (show i + m - 1 ≤ L by omega)]
        exact K2
      · rw [Nat.min_eq_right (show L ≤ i + m by omega)] at K2
        rw [Nat.min_eq_right (show L ≤ i + m - 1 by omega)]
        exact K2
theorem lz_ypo {post : Int32 → Prop} {x : Int32} (hm0 : 0 < m) (hm : m ≤ 10) (hL : L ≤ 120) (hg : ∀ j, j < L → g j = nI (T j)) (hT : ∀ j, j < L → T j < 4)
    (hW : ∀ j, j < m → Aw j = nI (W j) ∧ W j < 4)
    (H0 : (∀ i, i < L → lz_oc L T W i m → ¬ nI (lz_hc (lz_dl m W) m T 0 (i + m - 1)) = x) → post (-4))
    (H1 : ∀ i, i < L → lz_oc L T W i m → nI (lz_hc (lz_dl m W) m T 0 (i + m - 1)) = x → post (nI i)) : wpY_position post (nI L, nI m, g, Aw) x := by
  have h := lz_ypo4 hm0 hm hL hg hT hW H0 H1 L 0 (by omega) (fun j hj => absurd hj (Nat.not_lt_zero j))
  rw [lz_hc_small _ (show min (0 + m - 1) L < m by omega)] at h
  exact Exists.intro (L + 1) h
theorem lz_ypo0 {post : Int32 → Prop} {x : Int32} (hL : L ≤ 120) (hp : post (-4)) : wpY_position post (nI L, nI 0, g, Aw) x := by
  have h : ∀ d i, i + d = L → wY_position_4 post x (nI L) (nI 0) g Aw (d + 1) 0 (nI i) := by
    intro d
    induction d with
    | zero => intro i hi; exact br_t (nI_le (by omega) (by omega)) hp
    | succ d ih =>
      intro i hi
      refine br_f (nI_ge (by omega) (by omega)) (lz_yoc0 (br_t (c := (0 : Int32) = 0) rfl ?_))
      intro y ey
      rw [nI_1] at ey
      subst ey
      exact ih (i + 1) (by omega)
  exact Exists.intro (L + 1) (h L 0 (by omega))
theorem lz_yfr15 {post : Int32 → Prop} {l k : Nat} (hl : l < 4) (hk : k < 2 ^ 31) (hL : L ≤ 120) (hg : ∀ j, j < L → g j = nI (T j)) (hT : ∀ j, j < L → T j < 4)
    (hp : post (nI (lz_cn T l (min k L)))) :
    ∀ d i, i + d = min k L → wY_frequency_15 post (nI l) (nI k) (nI L) (nI m) g Aw (d + 1) (nI (lz_cn T l i)) (nI i) := by
  intro d
  induction d with
  | zero =>
    intro i hi
    have hiL : i = min k L := by omega
    rw [← hiL] at hp
    exact pk_le k i (fun _ => hp) (fun _ => br_t (nI_le (by omega) (by omega)) hp)
  | succ d ih =>
    intro i hi
    have hT' := hT i (by omega)
    refine br_f (nI_ge (by omega) (by omega)) (br_f (nI_ge (by omega) (by omega)) ⟨vp_in_nI (by omega) (by omega), ?_⟩)
    have K := ih (i + 1) (by omega)
    rw [lz_cn_s] at K
    rw [nI_clamp (by omega), hg i (by omega)]
    refine pk_eq (T i) l (fun z => ?_) (fun z => ?_)
    · rw [if_pos z] at K
      intro x ex
      rw [nI_1] at ex
      subst ex
      intro y ey
      rw [nI_1] at ey
      subst ey
      exact K
    · rw [if_neg z, Nat.add_zero] at K
      intro y ey
      rw [nI_1] at ey
      subst ey
      exact K
theorem lz_yfr {post : Int32 → Prop} {l k : Nat} (hl : l < 4) (hk : k < 2 ^ 31) (hL : L ≤ 120) (hg : ∀ j, j < L → g j = nI (T j)) (hT : ∀ j, j < L → T j < 4)
    (hp : post (nI (lz_cn T l (min k L)))) : wpY_frequency post (nI L, nI m, g, Aw) (nI l) (nI k) := by
  unfold wpY_frequency
  dsimp only
  refine lz_yis hl (br_f (c := (1 : Int32) = 0) (by decide) ?_)
  exact ⟨_, lz_yfr15 hl hk hL hg hT hp (min k L) 0 (by omega)⟩
theorem lz_yfr0 {post : Int32 → Prop} {l : Nat} {x : Int32} (hl : l < 4) (hx : x < 0) (hp : post (nI 0)) : wpY_frequency post (nI L, nI m, g, Aw) (nI l) x := by
  unfold wpY_frequency
  dsimp only
  refine lz_yis hl (br_f (c := (1 : Int32) = 0) (by decide) ?_)
  exact ⟨1, br_t (Int32.le_of_lt hx) hp⟩
theorem lz_yfrBad {post : Int32 → Prop} {x y : Int32} (hx : x < 0 ∨ 3 < x) (hp : post (-1)) : wpY_frequency post (nI L, nI m, g, Aw) x y := by
  unfold wpY_frequency
  dsimp only
  exact lz_yis0 hx (br_t (c := (0 : Int32) = 0) rfl hp)
theorem lz_yov4 {post : Int32 → Prop} (hm : m ≤ 10) (hL : L ≤ 120) (hg : ∀ j, j < L → g j = nI (T j)) (hT : ∀ j, j < L → T j < 4)
    (hW : ∀ j, j < m → Aw j = nI (W j) ∧ W j < 4) (hp : post (nI (lz_lg W T L m))) :
    ∀ d j, j + d = m → j ≤ L → wY_overlap_4 post (nI L) (nI m) g Aw (d + 1) (nI (lz_lg W T L j)) (nI (j + 1)) := by
  intro d
  induction d with
  | zero =>
    intro j hj hjL
    have e : j = m := by omega
    subst e
    exact br_t (nI_lt (by omega) (by omega)) hp
  | succ d ih =>
    intro j hj hjL
    refine br_f (nI_nlt (by omega) (by omega)) (pk_lt L (j + 1) (fun e => ?_) (fun e => ?_))
    · have e2 : j = L := by omega
      subst e2
      have hc := lz_lg_cap W T j (m - j)
      rw [show j + (m - j) = m by omega] at hc
      rw [← hc]
      exact hp
    · have K := ih (j + 1) (by omega) e
      rw [pk_sub e]
      refine lz_ysd (by omega) (by omega) hm hL hg hT hW (fun z => ?_) (fun z => ?_)
      · refine br_f (c := (1 : Int32) = 0) (by decide) ?_
        intro y ey
        rw [nI_1] at ey
        subst ey
        rw [show lz_lg W T L (j + 1) = j + 1 from if_pos ⟨e, fun i hi => (z i hi).2⟩] at K
        exact K
      · refine br_t (c := (0 : Int32) = 0) rfl ?_
        intro y ey
        rw [nI_1] at ey
        subst ey
        rw [show lz_lg W T L (j + 1) = lz_lg W T L j from if_neg (fun h => z (fun q hq => ⟨by omega, h.2 q hq⟩))] at K
        exact K
end
end
section
/-! the component's methods over the tables -/
section
variable {L C P m : Nat} {T W N : Nat → Nat} {F : Nat → Nat → Nat} {ph st : Nat → Nat} {fO fR : Int32} {Ap Al Az Ac At Ak Ao Aw An Ad Ah : Nat → Int32}
/-- how many letters a limit leaves -/
def lz_lim (L : Nat) (x : Int32) (K : Nat) : Prop := (x < 0 ∧ K = 0) ∨ ∃ n, n < 2 ^ 31 ∧ x = nI n ∧ K = min n L
theorem lz_lim_ex (L : Nat) (x : Int32) : ∃ K, K ≤ L ∧ lz_lim L x K := by
  by_cases h : x < 0
  · exact ⟨0, Nat.zero_le _, Or.inl ⟨h, rfl⟩⟩
  · obtain ⟨n, hn, e⟩ := nI_of h
    exact ⟨min n L, Nat.min_le_right _ _, Or.inr ⟨n, hn, e, rfl⟩⟩
theorem lz_lim_lt {L : Nat} {x : Int32} {K : Nat} (hL : L ≤ 120) (h : lz_lim L x K) {i : Nat} (h0 : 0 < i) (hi : i ≤ L) : x < nI i ↔ K < i := by
  rcases h with ⟨h1, h2⟩ | ⟨n, hn, h1, h2⟩
  · have h3 : x < nI i := Int32.lt_of_lt_of_le h1 (nI_pos' (by omega))
    exact ⟨fun _ => by omega, fun _ => h3⟩
  · rw [h1, nI_ltI hn (by omega)]
    omega
theorem lz_xclamp {post : Int32 → Prop} {x fP fC fM : Int32} {K : Nat} (hL : L ≤ 120) (h : lz_lim L x K) (hp : post (nI K)) : wpX_clampLength post (fP, nI L, fC, fO, fM, fR, Ap, Al, Az, Ac, At, Ak, Ao, Aw, An, Ad, Ah) x := by
  rcases h with ⟨h1, h2⟩ | ⟨n, hn, h1, h2⟩
  · subst h2
    exact lz_clamp0 h1 hp
  · subst h1 h2
    exact lz_clampN hn hL hp
theorem lz_xcw {post : Int32 → SX → Prop} {x : Int32} {K : Nat} (hm : m ≤ 10) (hG : lz_G L C P T N F ph st fO Ap Al Az Ac At Ak Ao) (hN : 1 ≤ m → lz_NX m W An) (hR : ¬ fR = 0 → lz_TB P m W N F Ad Ah)
    (hx : lz_lim L x K) (hK : K ≤ L)
    (H : ∀ fR Ad Ah, (¬ fR = 0 → lz_TB P m W N F Ad Ah) → post (nI (if m = 0 then 0 else lz_hc (lz_dl m W) m T 0 K)) (nI P, nI L, nI C, fO, nI m, fR, Ap, Al, Az, Ac, At, Ak, Ao, Aw, An, Ad, Ah)) : wpX_countWithin post (nI P, nI L, nI C, fO, nI m, fR, Ap, Al, Az, Ac, At, Ak, Ao, Aw, An, Ad, Ah) x := by
  have hG' := hG
  obtain ⟨h1, h2, h3, h4, h5, h6, h7, h8, h9, h10, h11⟩ := hG'
  unfold wpX_countWithin
  dsimp only
  refine lz_xclamp h1 hx ?_
  refine pk_eq m 0 (fun e => ?_) (fun e => ?_)
  · have := H fR Ad Ah hR
    rw [if_pos e] at this
    exact this
  · refine pk_eq K 0 (fun e2 => ?_) (fun e2 => ?_)
    · have := H fR Ad Ah hR
      rw [if_neg e, e2] at this
      exact this
    · have hV : lz_V L C P T N F ph st fO Ak := by
        rcases h11 with z | z
        · have := z.1
          omega
        · exact z
      refine lz_prep hm (by omega) h7 (hN (by omega)) hR (fun fR Ad Ah hT => ?_)
      have hp := H fR Ad Ah (fun _ => hT)
      rw [if_neg e] at hp
      have h := lz_cw31 (post := post) hm hK hG hV hT hp (C + 1) 0 (by omega)
      rw [h9, Nat.min_zero] at h
      exact ⟨_, h⟩
theorem lz_xov {post : Int32 → SX → Prop} (hm : m ≤ 10) (hG : lz_G L C P T N F ph st fO Ap Al Az Ac At Ak Ao) (hN : 1 ≤ m → lz_NX m W An) (hR : ¬ fR = 0 → lz_TB P m W N F Ad Ah)
    (H : ∀ fR Ad Ah, (¬ fR = 0 → lz_TB P m W N F Ad Ah) → post (nI (lz_lg W T L m)) (nI P, nI L, nI C, fO, nI m, fR, Ap, Al, Az, Ac, At, Ak, Ao, Aw, An, Ad, Ah)) : wpX_overlap post (nI P, nI L, nI C, fO, nI m, fR, Ap, Al, Az, Ac, At, Ak, Ao, Aw, An, Ad, Ah) := by
  have hG' := hG
  obtain ⟨h1, h2, h3, h4, h5, h6, h7, h8, h9, h10, h11⟩ := hG'
  refine pk_eq m 0 (fun e => ?_) (fun e => ?_)
  · have := H fR Ad Ah hR
    subst e
    exact this
  · refine pk_eq L 0 (fun e2 => ?_) (fun e2 => ?_)
    · have := H fR Ad Ah hR
      have hc := lz_lg_cap W T L m
      subst e2
      rw [Nat.zero_add] at hc
      rw [hc] at this
      exact this
    · have hV : lz_V L C P T N F ph st fO Ak := by
        rcases h11 with z | z
        · exact absurd z.1 e2
        · exact z
      refine lz_prep hm (by omega) h7 (hN (by omega)) hR (fun fR Ad Ah hT => ?_)
      have hp := H fR Ad Ah (fun _ => hT)
      rw [lz_LG_u (lz_lg_LG W T L m) (lz_run m W T L)] at hp
      have h := lz_ov24 (post := post) hm hG hV hT hp (C + 1) 0 (by omega)
      rw [h9] at h
      exact ⟨_, h⟩
theorem lz_xpo {post : Int32 → SX → Prop} {x : Nat} (hx : x < 2 ^ 31) (hm0 : 0 < m) (hL0 : 0 < L) (hm : m ≤ 10) (hG : lz_G L C P T N F ph st fO Ap Al Az Ac At Ak Ao) (hN : 1 ≤ m → lz_NX m W An) (hR : ¬ fR = 0 → lz_TB P m W N F Ad Ah)
    (H0 : ∀ fR Ad Ah, (¬ fR = 0 → lz_TB P m W N F Ad Ah) → lz_hc (lz_dl m W) m T 0 L ≤ x → post (-4) (nI P, nI L, nI C, fO, nI m, fR, Ap, Al, Az, Ac, At, Ak, Ao, Aw, An, Ad, Ah))
    (H1 : ∀ fR Ad Ah, (¬ fR = 0 → lz_TB P m W N F Ad Ah) → ∀ j, 1 ≤ j → j ≤ L → x < lz_hc (lz_dl m W) m T 0 j → lz_hc (lz_dl m W) m T 0 (j - 1) ≤ x → post (nI j - nI m) (nI P, nI L, nI C, fO, nI m, fR, Ap, Al, Az, Ac, At, Ak, Ao, Aw, An, Ad, Ah)) :
    wpX_position post (nI P, nI L, nI C, fO, nI m, fR, Ap, Al, Az, Ac, At, Ak, Ao, Aw, An, Ad, Ah) (nI x) := by
  have hG' := hG
  obtain ⟨h1, h2, h3, h4, h5, h6, h7, h8, h9, h10, h11⟩ := hG'
  refine br_f (nI_pos hx) (br_f (nI_ne0 hm0 (by omega)) (br_f (nI_ne0 hL0 (by omega)) ?_))
  have hV : lz_V L C P T N F ph st fO Ak := by
    rcases h11 with z | z
    · have := z.1
      omega
    · exact z
  refine lz_prep hm (by omega) h7 (hN (by omega)) hR (fun fR Ad Ah hT => ?_)
  have h := lz_po32 (post := post) hx hm hG hV hT (H0 fR Ad Ah (fun _ => hT)) (H1 fR Ad Ah (fun _ => hT)) (C + 1) 0 (by omega) (by rw [h9]; exact Nat.zero_le _)
  rw [h9] at h
  exact ⟨_, h⟩
theorem lz_xfr {post : Int32 → Prop} {l K : Nat} {x : Int32} (hl : l < 4) (hG : lz_G L C P T N F ph st fO Ap Al Az Ac At Ak Ao) (hx : lz_lim L x K) (hK : K ≤ L)
    (hp : post (nI (lz_cn T l K))) : wpX_frequency post (nI P, nI L, nI C, fO, nI m, fR, Ap, Al, Az, Ac, At, Ak, Ao, Aw, An, Ad, Ah) (nI l) x := by
  have hG' := hG
  obtain ⟨h1, h2, h3, h4, h5, h6, h7, h8, h9, h10, h11⟩ := hG'
  refine br_f (nI_pos (by omega)) (br_t (nI_le (b := 3) (by omega) (by omega)) ?_)
  refine lz_xclamp h1 hx ?_
  rcases h11 with ⟨z1, z2, z3⟩ | hV
  · refine ⟨1, br_f (nI_nlt (a := C) (b := 0) (by omega) (by omega)) ⟨vp_in_nI (n := 0) (by omega) (by omega), ?_⟩⟩
    have e0 : Ao (0 : Int32).toNatClampNeg = nI 0 := by
      have h := h10 0 (by omega)
      rw [h9] at h
      rw [lz_cl0]
      exact h
    rw [e0]
    have eK : K = 0 := by omega
    subst eK
    exact br_t (nI_le (by omega) (by omega)) hp
  · have h := lz_fr23 (fM := nI m) (fR := fR) (Aw := Aw) (An := An) (Ad := Ad) (Ah := Ah) hl hK hG hV hp (C + 1) 0 (by omega)
    rw [h9, Nat.min_zero] at h
    exact ⟨_, h⟩
end
end
section
/-! the relation -/
def lz_I (L m P C : Nat) (T W N : Nat → Nat) (F : Nat → Nat → Nat) (ph st : Nat → Nat) (fO fR : Int32) (Ap Al Az Ac At Ak Ao Aw An Ad Ah g : Nat → Int32) : Prop :=
  (∀ j, j < L → g j = nI (T j)) ∧ m ≤ 10 ∧ (∀ j, j < m → Aw j = nI (W j) ∧ W j < 4) ∧ (1 ≤ m → lz_NX m W An) ∧ (¬ fR = 0 → lz_TB P m W N F Ad Ah) ∧
  lz_G L C P T N F ph st fO Ap Al Az Ac At Ak Ao
/-- the relation at the head of a turn: (u : SX) is the component's state, (v : SY) the reference's; the wanted arrays are one function -/
def i_Rel (_ : Nat) (u : SX) (v : SY) : Prop := match u with
  | (fP, fL, fC, fO, fM, fR, Ap, Al, Az, Ac, At, Ak, Ao, Aw, An, Ad, Ah) => match v with
    | (gL, gM, g, bw) => ∃ (L m P C : Nat) (T W N : Nat → Nat) (F : Nat → Nat → Nat) (ph st : Nat → Nat),
      fP = nI P ∧ fL = nI L ∧ fC = nI C ∧ fM = nI m ∧ gL = nI L ∧ gM = nI m ∧ bw = Aw ∧ lz_I L m P C T W N F ph st fO fR Ap Al Az Ac At Ak Ao Aw An Ad Ah g
theorem lz_el {k : Nat} {Q : SX → SY → Prop}
    (h : ∀ (L m P C : Nat) (T W N : Nat → Nat) (F : Nat → Nat → Nat) (ph st : Nat → Nat) (fO fR : Int32) (Ap Al Az Ac At Ak Ao Aw An Ad Ah g : Nat → Int32),
      lz_I L m P C T W N F ph st fO fR Ap Al Az Ac At Ak Ao Aw An Ad Ah g → Q (nI P, nI L, nI C, fO, nI m, fR, Ap, Al, Az, Ac, At, Ak, Ao, Aw, An, Ad, Ah) (nI L, nI m, g, Aw)) {u : SX} {v : SY} (I : i_Rel k u v) : Q u v := by
  obtain ⟨fP, fL, fC, fO, fM, fR, Ap, Al, Az, Ac, At, Ak, Ao, Aw, An, Ad, Ah⟩ := u
  obtain ⟨gL, gM, g, bw⟩ := v
  obtain ⟨L, m, P, C, T, W, N, F, ph, st, e1, e2, e3, e4, e5, e6, e7, hI⟩ := I
  subst e1 e2 e3 e4 e5 e6 e7
  exact h L m P C T W N F ph st fO fR Ap Al Az Ac At Ak Ao bw An Ad Ah g hI
section
variable {k L m P C : Nat} {T W N : Nat → Nat} {F : Nat → Nat → Nat} {ph st : Nat → Nat} {fO fR : Int32} {Ap Al Az Ac At Ak Ao Aw An Ad Ah g : Nat → Int32}
theorem lz_intro (h : lz_I L m P C T W N F ph st fO fR Ap Al Az Ac At Ak Ao Aw An Ad Ah g) : i_Rel k (nI P, nI L, nI C, fO, nI m, fR, Ap, Al, Az, Ac, At, Ak, Ao, Aw, An, Ad, Ah) (nI L, nI m, g, Aw) :=
  ⟨L, m, P, C, T, W, N, F, ph, st, rfl, rfl, rfl, rfl, rfl, rfl, rfl, h⟩
/-- behind a change of the text the tables are not ready -/
theorem lz_introR {fP fC : Int32} (hg : ∀ j, j < L → g j = nI (T j)) (hm : m ≤ 10) (hW : ∀ j, j < m → Aw j = nI (W j) ∧ W j < 4) (hN : 1 ≤ m → lz_NX m W An)
    (h : lz_R L T fP fC fO Ap Al Az Ac At Ak Ao) : i_Rel k (fP, nI L, fC, fO, nI m, 0, Ap, Al, Az, Ac, At, Ak, Ao, Aw, An, Ad, Ah) (nI L, nI m, g, Aw) := by
  obtain ⟨P, C, N, F, ph, st, rfl, rfl, hG⟩ := h
  exact lz_intro (k := k) (W := W) ⟨hg, hm, hW, hN, fun z => absurd rfl z, hG⟩
theorem lz_vc_append (I : lz_I L m P C T W N F ph st fO fR Ap Al Az Ac At Ak Ao Aw An Ad Ah g) (x : Int32) :
    wpX_append (fun r u' => wpY_append (fun r' v' => r' = r ∧ i_Rel (k + 3) u' v') (nI L, nI m, g, Aw) x) (nI P, nI L, nI C, fO, nI m, fR, Ap, Al, Az, Ac, At, Ak, Ao, Aw, An, Ad, Ah) x := by
  have I' := I
  obtain ⟨hg, hm, hW, hN, hR, hG⟩ := I'
  have hL := hG.1
  rcases lz_lt3 x with h | ⟨h1, h2, h3⟩ | ⟨l, hl, rfl⟩
  · exact br_t h (lz_yappBad (Or.inl h) ⟨rfl, lz_intro I⟩)
  · exact br_f h1 (br_f h3 (lz_yappBad (Or.inr h2) ⟨rfl, lz_intro I⟩))
  · by_cases h : L < 120
    · refine lz_app hl h ⟨P, C, N, F, ph, st, rfl, rfl, hG⟩ ?_
      intro fP' fC' fO' Ap' Al' Az' Ac' At' Ak' Ao' hR2
      refine lz_yapp hl h ⟨rfl, lz_introR (T := lz_up T L l) (W := W) (fun j hj => ?_) hm hW hN hR2⟩
      by_cases e : j = L
      · rw [e, pk_us, lz_up_s]
      · rw [pk_un e, lz_up_n e]; exact hg j (by omega)
    · have hL2 : L = 120 := by omega
      refine br_f (nI_pos (by omega)) (br_t (nI_le (b := 3) (by omega) (by omega)) (br_f (nI_nlt (b := 120) (by omega) (by omega)) ?_))
      exact lz_yappFull hl hL2 ⟨rfl, lz_intro I⟩
theorem lz_vc_repeat9 (I : lz_I L m P C T W N F ph st fO fR Ap Al Az Ac At Ak Ao Aw An Ad Ah g) (x : Int32) {n : Nat} (hn : n < 2 ^ 31) :
    wX_repeat_9 (fun r u' => wY_repeat_9 (fun r' v' => r' = r ∧ i_Rel (k + 3) u' v') x (nI n) (nI L) (nI m) g Aw) x (nI n) (nI P) (nI L) (nI C) fO (nI m) fR Ap Al Az Ac At Ak Ao Aw An Ad Ah := by
  have I' := I
  obtain ⟨hg, hm, hW, hN, hR, hG⟩ := I'
  have hL := hG.1
  rcases pk_ix x (n := L) (by omega) with h | h | ⟨a, ha, rfl⟩
  · exact br_t h (br_t h ⟨rfl, lz_intro I⟩)
  · have h0 : ¬ x < 0 := Int32.not_lt.mpr (Int32.le_trans (nI_pos' (by omega)) h)
    have h1 : ¬ x < nI L := Int32.not_lt.mpr h
    exact br_f h0 (br_f h1 (br_f h0 (br_f h1 ⟨rfl, lz_intro I⟩)))
  · have e : (120 : Int32) - nI L = nI (120 - L) := pk_sub (a := 120) hL
    have p1 : ¬ nI a < 0 := nI_pos (by omega)
    have p2 : nI a < nI L := nI_lt ha (by omega)
    by_cases hk : n ≤ 120 - L
    · have p3 : nI n ≤ 120 - nI L := by rw [e]; exact nI_le hk (by omega)
      by_cases z : n = 0
      · subst z
        have z0 : nI 0 ≤ (0 : Int32) := by decide
        exact br_f p1 (br_t p2 (br_t p3 ⟨1, br_t z0 (br_f p1 (br_t p2 (br_t p3 ⟨1, br_t z0 ⟨rfl, lz_intro I⟩⟩)))⟩))
      · refine br_f p1 (br_t p2 (br_t p3 ⟨n + 1, ?_⟩))
        refine lz_rep42 (T := T) ha (by omega) ?_ n 0 _ _ _ _ _ _ _ _ _ _ _ (by omega) (fun z => absurd z (Nat.lt_irrefl 0)) ⟨P, C, N, F, ph, st, rfl, rfl, hG⟩
        intro fP' fC' fO' fR' Ap' Al' Az' Ac' At' Ak' Ao' hr hR2
        have hr' := hr (by omega)
        subst hr'
        refine br_f p1 (br_t p2 (br_t p3 ⟨n + 1, ?_⟩))
        refine lz_yrep42 (T := T) ha (by omega) hG.2.1 ?_ n 0 g (by omega) (fun j hj => ⟨hg j hj, hG.2.1 j hj⟩)
        intro g' hg'
        exact ⟨rfl, lz_introR (T := lz_rp T L a n) (W := W) hg' hm hW hN hR2⟩
    · have p3 : ¬ nI n ≤ 120 - nI L := by rw [e]; exact nI_ge (by omega) hn
      exact br_f p1 (br_t p2 (br_f p3 (br_f p1 (br_t p2 (br_f p3 ⟨rfl, lz_intro I⟩)))))
theorem lz_vc_repeat (I : lz_I L m P C T W N F ph st fO fR Ap Al Az Ac At Ak Ao Aw An Ad Ah g) (x y : Int32) :
    wpX_repeat (fun r u' => wpY_repeat (fun r' v' => r' = r ∧ i_Rel (k + 3) u' v') (nI L, nI m, g, Aw) x y) (nI P, nI L, nI C, fO, nI m, fR, Ap, Al, Az, Ac, At, Ak, Ao, Aw, An, Ad, Ah) x y := by
  by_cases h : y < 0
  · have h0 : ¬ 0 ≤ y := Int32.not_le.mpr h
    have K := lz_vc_repeat9 (k := k) I x (n := 0) (by omega)
    refine br_f h0 ?_
    have e : (fun (r : Int32) (u' : SX) => wpY_repeat (fun r' v' => r' = r ∧ i_Rel (k + 3) u' v') (nI L, nI m, g, Aw) x y) = (fun r u' => wY_repeat_9 (fun r' v' => r' = r ∧ i_Rel (k + 3) u' v') x (nI 0) (nI L) (nI m) g Aw) := by
      funext r u'
      exact propext ⟨fun z => And.right z h0, fun z => br_f h0 z⟩
    rw [e]
    exact K
  · obtain ⟨n, hn, rfl⟩ := nI_of h
    have h0 : 0 ≤ nI n := nI_pos' hn
    have K := lz_vc_repeat9 (k := k) I x hn
    refine br_t h0 ?_
    have e : (fun (r : Int32) (u' : SX) => wpY_repeat (fun r' v' => r' = r ∧ i_Rel (k + 3) u' v') (nI L, nI m, g, Aw) x (nI n)) = (fun r u' => wY_repeat_9 (fun r' v' => r' = r ∧ i_Rel (k + 3) u' v') x (nI n) (nI L) (nI m) g Aw) := by
      funext r u'
      exact propext ⟨fun z => And.left z h0, fun z => br_t h0 z⟩
    rw [e]
    exact K
theorem lz_vc_clear (I : lz_I L m P C T W N F ph st fO fR Ap Al Az Ac At Ak Ao Aw An Ad Ah g) :
    wpX_clear (fun u' => wpY_clear (fun v' => i_Rel (k + 3) u' v') (nI L, nI m, g, Aw)) (nI P, nI L, nI C, fO, nI m, fR, Ap, Al, Az, Ac, At, Ak, Ao, Aw, An, Ad, Ah) := by
  obtain ⟨hg, hm, hW, hN, hR, hG⟩ := I
  have ho : Ao 0 = 0 := by
    have h := hG.2.2.2.2.2.2.2.2.2.1 0 (Nat.zero_le _)
    rw [hG.2.2.2.2.2.2.2.2.1] at h
    exact h
  unfold wpX_clear
  dsimp only
  refine lz_start ho (fun Ap Al Az Ac At hG' => ?_)
  exact lz_introR (k := k + 3) (L := 0) (T := fun _ => 0) (W := W) (fun j hj => absurd hj (Nat.not_lt_zero j)) hm hW hN ⟨4, 0, _, _, _, _, rfl, rfl, hG'⟩
theorem lz_vc_pattern (I : lz_I L m P C T W N F ph st fO fR Ap Al Az Ac At Ak Ao Aw An Ad Ah g) (x : Int32) :
    wpX_pattern (fun r u' => wpY_pattern (fun r' v' => r' = r ∧ i_Rel (k + 3) u' v') (nI L, nI m, g, Aw) x) (nI P, nI L, nI C, fO, nI m, fR, Ap, Al, Az, Ac, At, Ak, Ao, Aw, An, Ad, Ah) x := by
  have I' := I
  obtain ⟨hg, hm, hW, hN, hR, hG⟩ := I'
  rcases lz_lt3 x with h | ⟨h1, h2, h3⟩ | ⟨l, hl, rfl⟩
  · exact br_t h (lz_ypatBad (Or.inl h) ⟨rfl, lz_intro I⟩)
  · exact br_f h1 (br_f h3 (lz_ypatBad (Or.inr h2) ⟨rfl, lz_intro I⟩))
  · refine br_f (nI_pos (by omega)) (br_t (nI_le (b := 3) (by omega) (by omega)) (pk_lt m 10 (fun e => ?_) (fun e => ?_)))
    · refine ⟨vp_in_nI (by omega) (by omega), fun B eB => ?_⟩
      rw [nI_clamp (by omega)] at eB
      subst eB
      intro y ey
      rw [nI_1] at ey
      subst ey
      have hW' : ∀ j, j < m + 1 → upd Aw m (nI l) j = nI (lz_up W m l j) ∧ lz_up W m l j < 4 := by
        intro j hj
        by_cases z : j = m
        · rw [z, pk_us, lz_up_s]; exact ⟨rfl, hl⟩
        · rw [pk_un z, lz_up_n z]; exact hW j (by omega)
      refine lz_ba (by omega) (by omega) hW' (fun An' hN' => ?_)
      exact lz_ypat hl e ⟨rfl, lz_introR (W := lz_up W m l) hg (by omega) hW' (fun _ => hN') ⟨P, C, N, F, ph, st, rfl, rfl, hG⟩⟩
    · exact lz_ypatFull hl (by omega) ⟨rfl, lz_intro I⟩
theorem lz_vc_clearPattern (I : lz_I L m P C T W N F ph st fO fR Ap Al Az Ac At Ak Ao Aw An Ad Ah g) :
    wpX_clearPattern (fun u' => wpY_clearPattern (fun v' => i_Rel (k + 3) u' v') (nI L, nI m, g, Aw)) (nI P, nI L, nI C, fO, nI m, fR, Ap, Al, Az, Ac, At, Ak, Ao, Aw, An, Ad, Ah) := by
  obtain ⟨hg, hm, hW, hN, hR, hG⟩ := I
  exact lz_introR (k := k + 3) (m := 0) (W := W) hg (by omega) (fun j hj => absurd hj (Nat.not_lt_zero j)) (fun z => absurd z (by omega)) ⟨P, C, N, F, ph, st, rfl, rfl, hG⟩
theorem lz_vc_letterAt (I : lz_I L m P C T W N F ph st fO fR Ap Al Az Ac At Ak Ao Aw An Ad Ah g) (x : Int32) :
    wpX_letterAt (fun r => wpY_letterAt (fun r' => r' = r ∧ i_Rel (k + 3) (nI P, nI L, nI C, fO, nI m, fR, Ap, Al, Az, Ac, At, Ak, Ao, Aw, An, Ad, Ah) (nI L, nI m, g, Aw)) (nI L, nI m, g, Aw) x) (nI P, nI L, nI C, fO, nI m, fR, Ap, Al, Az, Ac, At, Ak, Ao, Aw, An, Ad, Ah) x := by
  have I' := I
  obtain ⟨hg, hm, hW, hN, hR, hG⟩ := I'
  have hL := hG.1
  rcases pk_ix x (n := L) (by omega) with h | h | ⟨a, ha, rfl⟩
  · exact lz_letOut hL (Or.inl h) (br_t h ⟨rfl, lz_intro I⟩)
  · have h0 : ¬ x < 0 := Int32.not_lt.mpr (Int32.le_trans (nI_pos' (by omega)) h)
    exact lz_letOut hL (Or.inr h) (br_f h0 (br_t h ⟨rfl, lz_intro I⟩))
  · refine lz_let hG ha ?_
    exact lz_ylet (by omega) hL hg (fun _ => ⟨rfl, lz_intro I⟩) (fun z => by omega)
end
end
section
/-! the questions, both sides -/
section
variable {k L m P C : Nat} {T W N : Nat → Nat} {F : Nat → Nat → Nat} {ph st : Nat → Nat} {fO fR : Int32} {Ap Al Az Ac At Ak Ao Aw An Ad Ah g : Nat → Int32}
theorem lz_vc_countWithin (I : lz_I L m P C T W N F ph st fO fR Ap Al Az Ac At Ak Ao Aw An Ad Ah g) (x : Int32) :
    wpX_countWithin (fun r u' => wpY_countWithin (fun r' => r' = r ∧ i_Rel (k + 3) u' (nI L, nI m, g, Aw)) (nI L, nI m, g, Aw) x) (nI P, nI L, nI C, fO, nI m, fR, Ap, Al, Az, Ac, At, Ak, Ao, Aw, An, Ad, Ah) x := by
  obtain ⟨hg, hm, hW, hN, hR, hG⟩ := I
  obtain ⟨K, hK, hx⟩ := lz_lim_ex L x
  refine lz_xcw hm hG hN hR hx hK (fun fR Ad Ah hR' => ?_)
  have hI : i_Rel (k + 3) (nI P, nI L, nI C, fO, nI m, fR, Ap, Al, Az, Ac, At, Ak, Ao, Aw, An, Ad, Ah) (nI L, nI m, g, Aw) := lz_intro ⟨hg, hm, hW, hN, hR', hG⟩
  by_cases e : m = 0
  · subst e
    exact lz_ycw0 hG.1 ⟨rfl, hI⟩
  · rw [if_neg e]
    exact lz_ycw (by omega) hm hG.1 hg hG.2.1 hW hK (fun i h0 hi => lz_lim_lt hG.1 hx h0 hi) ⟨rfl, hI⟩
theorem lz_vc_count (I : lz_I L m P C T W N F ph st fO fR Ap Al Az Ac At Ak Ao Aw An Ad Ah g) :
    wpX_count (fun r u' => wpY_count (fun r' => r' = r ∧ i_Rel (k + 3) u' (nI L, nI m, g, Aw)) (nI L, nI m, g, Aw)) (nI P, nI L, nI C, fO, nI m, fR, Ap, Al, Az, Ac, At, Ak, Ao, Aw, An, Ad, Ah) := by
  obtain ⟨hg, hm, hW, hN, hR, hG⟩ := I
  have hL := hG.1
  have hx : lz_lim L (nI L) L := Or.inr ⟨L, by omega, rfl, by omega⟩
  unfold wpX_count
  dsimp only
  refine lz_xcw hm hG hN hR hx (Nat.le_refl L) (fun fR Ad Ah hR' => ?_)
  have hI : i_Rel (k + 3) (nI P, nI L, nI C, fO, nI m, fR, Ap, Al, Az, Ac, At, Ak, Ao, Aw, An, Ad, Ah) (nI L, nI m, g, Aw) := lz_intro ⟨hg, hm, hW, hN, hR', hG⟩
  unfold wpY_count
  dsimp only
  by_cases e : m = 0
  · subst e
    exact lz_ycw0 hG.1 ⟨rfl, hI⟩
  · rw [if_neg e]
    exact lz_ycw (by omega) hm hG.1 hg hG.2.1 hW (Nat.le_refl L) (fun i h0 hi => lz_lim_lt hG.1 hx h0 hi) ⟨rfl, hI⟩
theorem lz_vc_overlap (I : lz_I L m P C T W N F ph st fO fR Ap Al Az Ac At Ak Ao Aw An Ad Ah g) :
    wpX_overlap (fun r u' => wpY_overlap (fun r' => r' = r ∧ i_Rel (k + 3) u' (nI L, nI m, g, Aw)) (nI L, nI m, g, Aw)) (nI P, nI L, nI C, fO, nI m, fR, Ap, Al, Az, Ac, At, Ak, Ao, Aw, An, Ad, Ah) := by
  obtain ⟨hg, hm, hW, hN, hR, hG⟩ := I
  refine lz_xov hm hG hN hR (fun fR Ad Ah hR' => ?_)
  have hI : i_Rel (k + 3) (nI P, nI L, nI C, fO, nI m, fR, Ap, Al, Az, Ac, At, Ak, Ao, Aw, An, Ad, Ah) (nI L, nI m, g, Aw) := lz_intro ⟨hg, hm, hW, hN, hR', hG⟩
  exact ⟨m + 1, lz_yov4 hm hG.1 hg hG.2.1 hW ⟨rfl, hI⟩ m 0 (by omega) (Nat.zero_le _)⟩
theorem lz_vc_frequency (I : lz_I L m P C T W N F ph st fO fR Ap Al Az Ac At Ak Ao Aw An Ad Ah g) (x y : Int32) :
    wpX_frequency (fun r => wpY_frequency (fun r' => r' = r ∧ i_Rel (k + 3) (nI P, nI L, nI C, fO, nI m, fR, Ap, Al, Az, Ac, At, Ak, Ao, Aw, An, Ad, Ah) (nI L, nI m, g, Aw)) (nI L, nI m, g, Aw) x y) (nI P, nI L, nI C, fO, nI m, fR, Ap, Al, Az, Ac, At, Ak, Ao, Aw, An, Ad, Ah) x y := by
  have I' := I
  obtain ⟨hg, hm, hW, hN, hR, hG⟩ := I'
  rcases lz_lt3 x with h | ⟨h1, h2, h3⟩ | ⟨l, hl, rfl⟩
  · exact br_t h (lz_yfrBad (Or.inl h) ⟨rfl, lz_intro I⟩)
  · exact br_f h1 (br_f h3 (lz_yfrBad (Or.inr h2) ⟨rfl, lz_intro I⟩))
  · obtain ⟨K, hK, hx⟩ := lz_lim_ex L y
    refine lz_xfr hl hG hx hK ?_
    rcases hx with ⟨z1, z2⟩ | ⟨n, hn, z1, z2⟩
    · subst z2
      exact lz_yfr0 hl z1 ⟨rfl, lz_intro I⟩
    · subst z1 z2
      exact lz_yfr hl hn hG.1 hg hG.2.1 ⟨rfl, lz_intro I⟩
theorem lz_vc_position (I : lz_I L m P C T W N F ph st fO fR Ap Al Az Ac At Ak Ao Aw An Ad Ah g) (x : Int32) :
    wpX_position (fun r u' => wpY_position (fun r' => r' = r ∧ i_Rel (k + 3) u' (nI L, nI m, g, Aw)) (nI L, nI m, g, Aw) x) (nI P, nI L, nI C, fO, nI m, fR, Ap, Al, Az, Ac, At, Ak, Ao, Aw, An, Ad, Ah) x := by
  have I' := I
  obtain ⟨hg, hm, hW, hN, hR, hG⟩ := I'
  have hL := hG.1
  have hI0 : i_Rel (k + 3) (nI P, nI L, nI C, fO, nI m, fR, Ap, Al, Az, Ac, At, Ak, Ao, Aw, An, Ad, Ah) (nI L, nI m, g, Aw) := lz_intro I
  have hb : ∀ j, j ≤ 130 → lz_hc (lz_dl m W) m T 0 j < 2 ^ 31 := fun j hj => Nat.lt_of_le_of_lt (lz_hc_le _ _ _ _ j) (by omega)
  by_cases h : x < 0
  · refine br_t h ?_
    by_cases e : m = 0
    · subst e
      exact lz_ypo0 hL ⟨rfl, hI0⟩
    · exact lz_ypo (by omega) hm hL hg hG.2.1 hW (fun _ => ⟨rfl, hI0⟩) (fun i hi _ z => absurd z (lz_nIne (hb _ (by omega)) h))
  · obtain ⟨n, hn, rfl⟩ := nI_of h
    by_cases e : m = 0
    · subst e
      exact br_f h (br_t (c := nI 0 = 0) rfl (lz_ypo0 hL ⟨rfl, hI0⟩))
    · by_cases e2 : L = 0
      · refine br_f h (br_f (nI_ne0 (by omega) (by omega)) (br_t (by rw [e2]; rfl) ?_))
        exact lz_ypo (by omega) hm hL hg hG.2.1 hW (fun _ => ⟨rfl, hI0⟩) (fun i hi => by omega)
      · refine lz_xpo hn (by omega) (by omega) hm hG hN hR (fun fR Ad Ah hR' c => ?_) (fun fR Ad Ah hR' j j1 j2 j3 j4 => ?_)
        · have hI : i_Rel (k + 3) (nI P, nI L, nI C, fO, nI m, fR, Ap, Al, Az, Ac, At, Ak, Ao, Aw, An, Ad, Ah) (nI L, nI m, g, Aw) := lz_intro ⟨hg, hm, hW, hN, hR', hG⟩
          refine lz_ypo (by omega) hm hL hg hG.2.1 hW (fun _ => ⟨rfl, hI⟩) (fun i hi ho z => ?_)
          have z2 := (nI_eq (hb _ (by omega)) hn).mp z
          have h1 := lz_oc_le (by omega) ho
          have h2 := lz_hc_yes (by omega) ho
          have h3 := lz_hc_mono' (d := lz_dl m W) (m := m) (f := T) (q := 0) h1
          omega
        · have hI : i_Rel (k + 3) (nI P, nI L, nI C, fO, nI m, fR, Ap, Al, Az, Ac, At, Ak, Ao, Aw, An, Ad, Ah) (nI L, nI m, g, Aw) := lz_intro ⟨hg, hm, hW, hN, hR', hG⟩
          have ej : lz_rn (lz_dl m W) T 0 j = m ∧ lz_hc (lz_dl m W) m T 0 (j - 1) = n := by
            obtain ⟨j', rfl⟩ : ∃ j', j = j' + 1 := ⟨j - 1, by omega⟩
            rw [Nat.add_sub_cancel] at j4 ⊢
            rw [lz_hc_s] at j3
            by_cases c : lz_rn (lz_dl m W) T 0 (j' + 1) = m
            · rw [if_pos c] at j3
              exact ⟨c, by omega⟩
            · rw [if_neg c] at j3
              omega
          have hmj : m ≤ j := by
            have h1 := (lz_run m W T j).2.1.1
            rw [ej.1] at h1
            exact h1
          refine lz_ypo (by omega) hm hL hg hG.2.1 hW (fun z => ?_) (fun i hi ho z => ⟨?_, hI⟩)
          · refine absurd ?_ (z (j - m) (by omega) (fun q hq => ⟨by omega, ?_⟩))
            · rw [show j - m + m - 1 = j - 1 by omega, ej.2]
            · refine lz_acc.mp ?_ q hq
              rw [show j - m + m = j by omega]
              exact ej.1
          · have z2 := (nI_eq (hb _ (by omega)) hn).mp z
            have h1 := lz_oc_le (by omega) ho
            have h2 := lz_hc_yes (by omega) ho
            have h4 : i + m = j := by
              by_cases c1 : i + m ≤ j - 1
              · have h3 := lz_hc_mono' (d := lz_dl m W) (m := m) (f := T) (q := 0) c1
                omega
              · by_cases c2 : j ≤ i + m - 1
                · have h3 := lz_hc_mono' (d := lz_dl m W) (m := m) (f := T) (q := 0) c2
                  omega
                · omega
            rw [pk_sub hmj, ← h4, Nat.add_sub_cancel]
end
end
section
/-! what is owed -/
theorem i_up {k : Nat} {u : SX} {v : SY} (h : i_Rel k u v) : i_Rel (k + 3) u v := h
theorem i_vc0 : wpX_init (fun u => wpY_init (fun v => i_Rel 0 u v)) :=
  lz_start (post := _) (Ao := fun _ => 0) rfl (fun Ap Al Az Ac At hG => lz_introR (k := 0) (L := 0) (m := 0) (T := fun _ => 0) (W := fun _ => 0) (fun j hj => absurd hj (Nat.not_lt_zero j)) (by decide) (fun j hj => absurd hj (Nat.not_lt_zero j)) (fun z => absurd z (by decide)) ⟨4, 0, _, _, _, _, rfl, rfl, hG⟩)
theorem i_vc_append {k : Nat} {u : SX} {v : SY} (I : i_Rel k u v) (hk : k + 3 ≤ 1536) (v1 : Int32) : wpX_append (fun r u' => wpY_append (fun r' v' => r' = r ∧ i_Rel (k + 3) u' v') v v1) u v1 :=
  lz_el (Q := fun u v => wpX_append (fun r u' => wpY_append (fun r' v' => r' = r ∧ i_Rel (k + 3) u' v') v v1) u v1) (fun _ _ _ _ _ _ _ _ _ _ _ _ _ _ _ _ _ _ _ _ _ _ _ _ h => lz_vc_append h v1) I
theorem i_vc_repeat {k : Nat} {u : SX} {v : SY} (I : i_Rel k u v) (hk : k + 3 ≤ 1536) (v1 : Int32) (v2 : Int32) : wpX_repeat (fun r u' => wpY_repeat (fun r' v' => r' = r ∧ i_Rel (k + 3) u' v') v v1 v2) u v1 v2 :=
  lz_el (Q := fun u v => wpX_repeat (fun r u' => wpY_repeat (fun r' v' => r' = r ∧ i_Rel (k + 3) u' v') v v1 v2) u v1 v2) (fun _ _ _ _ _ _ _ _ _ _ _ _ _ _ _ _ _ _ _ _ _ _ _ _ h => lz_vc_repeat h v1 v2) I
theorem i_vc_clear {k : Nat} {u : SX} {v : SY} (I : i_Rel k u v) (hk : k + 3 ≤ 1536) : wpX_clear (fun u' => wpY_clear (fun v' => i_Rel (k + 3) u' v') v) u :=
  lz_el (Q := fun u v => wpX_clear (fun u' => wpY_clear (fun v' => i_Rel (k + 3) u' v') v) u) (fun _ _ _ _ _ _ _ _ _ _ _ _ _ _ _ _ _ _ _ _ _ _ _ _ h => lz_vc_clear h) I
theorem i_vc_pattern {k : Nat} {u : SX} {v : SY} (I : i_Rel k u v) (hk : k + 3 ≤ 1536) (v1 : Int32) : wpX_pattern (fun r u' => wpY_pattern (fun r' v' => r' = r ∧ i_Rel (k + 3) u' v') v v1) u v1 :=
  lz_el (Q := fun u v => wpX_pattern (fun r u' => wpY_pattern (fun r' v' => r' = r ∧ i_Rel (k + 3) u' v') v v1) u v1) (fun _ _ _ _ _ _ _ _ _ _ _ _ _ _ _ _ _ _ _ _ _ _ _ _ h => lz_vc_pattern h v1) I
theorem i_vc_clearPattern {k : Nat} {u : SX} {v : SY} (I : i_Rel k u v) (hk : k + 3 ≤ 1536) : wpX_clearPattern (fun u' => wpY_clearPattern (fun v' => i_Rel (k + 3) u' v') v) u :=
  lz_el (Q := fun u v => wpX_clearPattern (fun u' => wpY_clearPattern (fun v' => i_Rel (k + 3) u' v') v) u) (fun _ _ _ _ _ _ _ _ _ _ _ _ _ _ _ _ _ _ _ _ _ _ _ _ h => lz_vc_clearPattern h) I
theorem i_vc_length {k : Nat} {u : SX} {v : SY} (I : i_Rel k u v) (hk : k + 3 ≤ 1536) : wpX_length (fun r => wpY_length (fun r' => r' = r ∧ i_Rel (k + 3) u v) v) u :=
  lz_el (Q := fun u v => wpX_length (fun r => wpY_length (fun r' => r' = r ∧ i_Rel (k + 3) u v) v) u) (fun _ _ _ _ _ _ _ _ _ _ _ _ _ _ _ _ _ _ _ _ _ _ _ _ h => And.intro rfl (lz_intro h)) I
theorem i_vc_letterAt {k : Nat} {u : SX} {v : SY} (I : i_Rel k u v) (hk : k + 3 ≤ 1536) (v1 : Int32) : wpX_letterAt (fun r => wpY_letterAt (fun r' => r' = r ∧ i_Rel (k + 3) u v) v v1) u v1 :=
  lz_el (Q := fun u v => wpX_letterAt (fun r => wpY_letterAt (fun r' => r' = r ∧ i_Rel (k + 3) u v) v v1) u v1) (fun _ _ _ _ _ _ _ _ _ _ _ _ _ _ _ _ _ _ _ _ _ _ _ _ h => lz_vc_letterAt h v1) I
theorem i_vc_count {k : Nat} {u : SX} {v : SY} (I : i_Rel k u v) (hk : k + 3 ≤ 1536) : wpX_count (fun r u' => wpY_count (fun r' => r' = r ∧ i_Rel (k + 3) u' v) v) u :=
  lz_el (Q := fun u v => wpX_count (fun r u' => wpY_count (fun r' => r' = r ∧ i_Rel (k + 3) u' v) v) u) (fun _ _ _ _ _ _ _ _ _ _ _ _ _ _ _ _ _ _ _ _ _ _ _ _ h => lz_vc_count h) I
theorem i_vc_position {k : Nat} {u : SX} {v : SY} (I : i_Rel k u v) (hk : k + 3 ≤ 1536) (v1 : Int32) : wpX_position (fun r u' => wpY_position (fun r' => r' = r ∧ i_Rel (k + 3) u' v) v v1) u v1 :=
  lz_el (Q := fun u v => wpX_position (fun r u' => wpY_position (fun r' => r' = r ∧ i_Rel (k + 3) u' v) v v1) u v1) (fun _ _ _ _ _ _ _ _ _ _ _ _ _ _ _ _ _ _ _ _ _ _ _ _ h => lz_vc_position h v1) I
theorem i_vc_frequency {k : Nat} {u : SX} {v : SY} (I : i_Rel k u v) (hk : k + 3 ≤ 1536) (v1 : Int32) (v2 : Int32) : wpX_frequency (fun r => wpY_frequency (fun r' => r' = r ∧ i_Rel (k + 3) u v) v v1 v2) u v1 v2 :=
  lz_el (Q := fun u v => wpX_frequency (fun r => wpY_frequency (fun r' => r' = r ∧ i_Rel (k + 3) u v) v v1 v2) u v1 v2) (fun _ _ _ _ _ _ _ _ _ _ _ _ _ _ _ _ _ _ _ _ _ _ _ _ h => lz_vc_frequency h v1 v2) I
theorem i_vc_overlap {k : Nat} {u : SX} {v : SY} (I : i_Rel k u v) (hk : k + 3 ≤ 1536) : wpX_overlap (fun r u' => wpY_overlap (fun r' => r' = r ∧ i_Rel (k + 3) u' v) v) u :=
  lz_el (Q := fun u v => wpX_overlap (fun r u' => wpY_overlap (fun r' => r' = r ∧ i_Rel (k + 3) u' v) v) u) (fun _ _ _ _ _ _ _ _ _ _ _ _ _ _ _ _ _ _ _ _ _ _ _ _ h => lz_vc_overlap h) I
theorem i_vc_countWithin {k : Nat} {u : SX} {v : SY} (I : i_Rel k u v) (hk : k + 3 ≤ 1536) (v1 : Int32) : wpX_countWithin (fun r u' => wpY_countWithin (fun r' => r' = r ∧ i_Rel (k + 3) u' v) v v1) u v1 :=
  lz_el (Q := fun u v => wpX_countWithin (fun r u' => wpY_countWithin (fun r' => r' = r ∧ i_Rel (k + 3) u' v) v v1) u v1) (fun _ _ _ _ _ _ _ _ _ _ _ _ _ _ _ _ _ _ _ _ _ _ _ _ h => lz_vc_countWithin h v1) I
end
