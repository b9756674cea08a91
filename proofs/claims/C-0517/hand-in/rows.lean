section
theorem pk_us {f : Nat → Int32} {k : Nat} {x : Int32} : upd f k x k = x := if_pos rfl
theorem pk_un {f : Nat → Int32} {k j : Nat} {x : Int32} (h : j ≠ k) : upd f k x j = f j := if_neg h
theorem pk_sub {a b : Nat} (h : b ≤ a) : nI a - nI b = nI (a - b) := by
  obtain ⟨c, rfl⟩ : ∃ c, a = c + b := ⟨a - b, by omega⟩
  rw [← nI_add, Int32.add_sub_cancel, Nat.add_sub_cancel]
theorem pk_m1 (n : Nat) : nI (n + 1) + (-1) = nI n := by
  rw [← nI_1, Int32.add_assoc, show (1 : Int32) + (-1) = 0 from rfl, Int32.add_zero]
theorem pk_mul (a b : Nat) : nI a * nI b = nI (a * b) := (Int32.ofNat_mul a b).symm
theorem pk_div {a d : Nat} (ha : a < 2 ^ 31) (h0 : 0 < d) (hd : d < 2 ^ 31) : nI a / nI d = nI (a / d) := by
  apply Int32.toInt_inj.mp
  rw [lg_idiv_nonneg (by rw [nI_toInt ha]; omega) (by rw [nI_toInt hd]; omega), nI_toInt ha, nI_toInt hd, nI_toInt (Nat.lt_of_le_of_lt (Nat.div_le_self a d) ha)]
  first | rfl | exact (Int.natCast_ediv _ _).symm
theorem pk_rem {a d : Nat} (ha : a < 2 ^ 31) (h0 : 0 < d) (hd : d < 2 ^ 31) : nI a - nI a / nI d * nI d = nI (a % d) := by
  rw [pk_div ha h0 hd, pk_mul, pk_sub (Nat.div_mul_le_self a d)]
  exact congrArg nI (by have := Nat.div_add_mod' a d; omega)
theorem pk_le {x y : Int32} {A B : Prop} (a b : Nat) (f : a ≤ b → A) (g : b < a → B) (hx : x = nI a := by rfl) (hy : y = nI b := by rfl) (ha : a < 2 ^ 31 := by omega) (hb : b < 2 ^ 31 := by omega) : (x ≤ y → A) ∧ (¬ x ≤ y → B) := by
  subst hx hy
  rw [nI_leI ha hb]
  exact ⟨f, fun z => g (by omega)⟩
theorem pk_lt {x y : Int32} {A B : Prop} (a b : Nat) (f : a < b → A) (g : b ≤ a → B) (hx : x = nI a := by rfl) (hy : y = nI b := by rfl) (ha : a < 2 ^ 31 := by omega) (hb : b < 2 ^ 31 := by omega) : (x < y → A) ∧ (¬ x < y → B) := by
  subst hx hy
  rw [nI_ltI ha hb]
  exact ⟨f, fun z => g (by omega)⟩
theorem pk_eq {x y : Int32} {A B : Prop} (a b : Nat) (f : a = b → A) (g : a ≠ b → B) (hx : x = nI a := by rfl) (hy : y = nI b := by rfl) (ha : a < 2 ^ 31 := by omega) (hb : b < 2 ^ 31 := by omega) : (x = y → A) ∧ (¬ x = y → B) := by
  subst hx hy
  rw [nI_eq ha hb]
  exact ⟨f, g⟩
theorem pk_in {x : Int32} (n N : Nat) (h : n < N) (hx : x = nI n := by rfl) (hN : N < 2 ^ 31 := by omega) : vp_in x N := by
  subst hx
  exact vp_in_nI h hN
theorem pk_cl {x : Int32} (n : Nat) (hx : x = nI n := by rfl) (h : n < 2 ^ 31 := by omega) : x.toNatClampNeg = n := by
  subst hx
  exact nI_clamp h

/-! sums over an initial segment -/
def qs_s (f : Nat → Nat) : Nat → Nat
  | 0 => 0
  | n + 1 => qs_s f n + f n
theorem qs_congr {f g : Nat → Nat} : ∀ {n : Nat}, (∀ j, j < n → f j = g j) → qs_s f n = qs_s g n
  | 0, _ => rfl
  | n + 1, h => by
    have a := qs_congr (f := f) (g := g) (n := n) (fun j hj => h j (by omega))
    have b := h n (by omega)
    simp only [qs_s]; omega
theorem qs_one {f g : Nat → Nat} {k : Nat} : ∀ {n : Nat}, k < n → (∀ j, j < n → j ≠ k → f j = g j) → qs_s f n + g k = qs_s g n + f k
  | 0, h, _ => by omega
  | n + 1, hk, h => by
    simp only [qs_s]
    rcases Nat.lt_or_ge k n with z | z
    · have a := qs_one (f := f) (g := g) (k := k) (n := n) z (fun j hj => h j (by omega))
      have b := h n (by omega) (by omega)
      omega
    · have e : k = n := by omega
      subst e
      have a := qs_congr (f := f) (g := g) (n := k) (fun j hj => h j (by omega) (by omega))
      omega
theorem qs_le {f : Nat → Nat} {b : Nat} : ∀ {n : Nat}, (∀ j, j < n → f j ≤ b) → qs_s f n ≤ n * b
  | 0, _ => by simp [qs_s]
  | n + 1, h => by
    have a := qs_le (f := f) (b := b) (n := n) (fun j hj => h j (by omega))
    have c := h n (by omega)
    simp only [qs_s]
    rw [Nat.add_mul, Nat.one_mul]
    omega
theorem qs_pos {f : Nat → Nat} : ∀ {n : Nat}, 0 < qs_s f n ↔ ∃ j, j < n ∧ 0 < f j
  | 0 => ⟨fun h => absurd h (Nat.lt_irrefl 0), fun ⟨j, h, _⟩ => absurd h (Nat.not_lt_zero j)⟩
  | n + 1 => by
    have a := qs_pos (f := f) (n := n)
    constructor
    · intro h
      simp only [qs_s] at h
      rcases Nat.eq_zero_or_pos (qs_s f n) with z | z
      · exact ⟨n, by omega, by omega⟩
      · obtain ⟨j, hj, hp⟩ := a.mp z
        exact ⟨j, by omega, hp⟩
    · rintro ⟨j, hj, hp⟩
      simp only [qs_s]
      rcases Nat.lt_or_ge j n with z | z
      · have := a.mpr ⟨j, z, hp⟩
        omega
      · have e : j = n := by omega
        subst e
        omega
theorem qs_zero {f : Nat → Nat} {n : Nat} (h : ∀ j, j < n → f j = 0) : qs_s f n = 0 := by
  rcases Nat.eq_zero_or_pos (qs_s f n) with z | z
  · exact z
  · obtain ⟨j, hj, hp⟩ := qs_pos.mp z
    have := h j hj
    omega
/-- a set with m elements, listed by f without repetition, has the sum m -/
theorem qs_bij {n : Nat} : ∀ (m : Nat) (u f : Nat → Nat), (∀ i, i < m → f i < n ∧ u (f i) = 1) → (∀ i j, i < m → j < m → f i = f j → i = j) →
    (∀ y, y < n → u y = 0 ∨ (u y = 1 ∧ ∃ i, i < m ∧ f i = y)) → qs_s u n = m := by
  intro m
  induction m with
  | zero =>
    intro u f _ _ h
    refine qs_zero fun j hj => ?_
    rcases h j hj with z | ⟨_, i, hi, _⟩
    · exact z
    · omega
  | succ m ih =>
    intro u f h1 h2 h3
    obtain ⟨hf, hu⟩ := h1 m (by omega)
    have a := qs_one (f := u) (g := fun y => if y = f m then 0 else u y) (k := f m) (n := n) hf (fun j _ hne => by
      show u j = if j = f m then 0 else u j
      rw [if_neg hne])
    have b := ih (fun y => if y = f m then 0 else u y) f (fun i hi => by
      refine ⟨(h1 i (by omega)).1, ?_⟩
      show (if f i = f m then 0 else u (f i)) = 1
      rw [if_neg (fun e => by have := h2 i m (by omega) (by omega) e; omega)]
      exact (h1 i (by omega)).2) (fun i j hi hj => h2 i j (by omega) (by omega)) (fun y hy => by
      show (if y = f m then 0 else u y) = 0 ∨ ((if y = f m then 0 else u y) = 1 ∧ _)
      by_cases e : y = f m
      · exact Or.inl (if_pos e)
      · rw [if_neg e]
        rcases h3 y hy with z | ⟨z, i, hi, hz⟩
        · exact Or.inl z
        · refine Or.inr ⟨z, i, ?_, hz⟩
          rcases Nat.lt_or_ge i m with w | w
          · exact w
          · have e2 : i = m := by omega
            subst e2
            exact absurd hz.symm e)
    rw [if_pos rfl, b, hu] at a
    omega
/-- pigeons -/
theorem qs_php {N m : Nat} (f : Nat → Nat) (h1 : ∀ i, i < N → f i < m) (h2 : ∀ i j, i < N → j < N → f i = f j → i = j) : N ≤ m := by
  classical
  have a := qs_bij (n := m) N (fun y => if ∃ i, i < N ∧ f i = y then 1 else 0) f (fun i hi => ⟨h1 i hi, if_pos ⟨i, hi, rfl⟩⟩) h2 (fun y _ => by
    show (if ∃ i, i < N ∧ f i = y then 1 else 0) = 0 ∨ ((if ∃ i, i < N ∧ f i = y then 1 else 0) = 1 ∧ _)
    by_cases e : ∃ i, i < N ∧ f i = y
    · exact Or.inr ⟨if_pos e, e⟩
    · exact Or.inl (if_neg e))
  have b := qs_le (f := fun y => if ∃ i, i < N ∧ f i = y then 1 else 0) (b := 1) (n := m) (fun j _ => by
    show (if ∃ i, i < N ∧ f i = j then 1 else 0) ≤ 1
    split <;> omega)
  omega
/-! ints -/
theorem qn_inj {a b : Nat} (ha : a < 1000) (hb : b < 1000) (h : nI a = nI b) : a = b := (nI_eq (by omega) (by omega)).mp h
theorem qn_c {a : Nat} (ha : a < 1000) : (nI a).toNatClampNeg = a := nI_clamp (by omega)
theorem qn_neg {a : Nat} (ha : a < 1000) : ¬ nI a = -1 := by
  intro h
  have b := congrArg Int32.toInt h
  rw [nI_toInt (by omega)] at b
  have c : (-1 : Int32).toInt = -1 := by decide
  omega
theorem qn_reg (p r : Nat) : 4 * nI p + nI r = nI (4 * p + r) := by
  show nI 4 * nI p + nI r = _
  rw [pk_mul, nI_add]
theorem qn_mail (p r : Nat) : 12 + 3 * nI p + nI r = nI (12 + 3 * p + r) := by
  show nI 12 + nI 3 * nI p + nI r = _
  rw [pk_mul, nI_add, nI_add]
theorem qn_box (p : Nat) : 12 + 3 * nI p = nI (12 + 3 * p) := by
  show nI 12 + nI 3 * nI p = _
  rw [pk_mul, nI_add]
theorem qn_base (p h : Nat) : 40 * nI p + 20 * nI h = nI (40 * p + 20 * h) := by
  show nI 40 * nI p + nI 20 * nI h = _
  rw [pk_mul, pk_mul, nI_add]
theorem qn_20 (p : Nat) : 20 * nI p = nI (20 * p) := by
  show nI 20 * nI p = _
  rw [pk_mul]
theorem qn_20p (p : Nat) : 20 * nI p + 20 = nI (20 * p + 20) := by
  show nI 20 * nI p + nI 20 = _
  rw [pk_mul, nI_add]
theorem qn_21 (i : Nat) : 21 + 2 * nI i = nI (21 + 2 * i) := by
  show nI 21 + nI 2 * nI i = _
  rw [pk_mul, nI_add]
theorem qn_22 (i : Nat) : 22 + 2 * nI i = nI (22 + 2 * i) := by
  show nI 22 + nI 2 * nI i = _
  rw [pk_mul, nI_add]
theorem qn_own (q : Nat) (h : 21 ≤ q) (h2 : q < 141) : (nI q - 21) / 2 = nI ((q - 21) / 2) := by
  show (nI q - nI 21) / nI 2 = _
  rw [pk_sub h, pk_div (by omega) (by decide) (by decide)]
theorem qn_b1 : vp_nar .boolean 1 = 1 := rfl
theorem qn_b0 : vp_nar .boolean 0 = 0 := rfl
theorem qn_m1 : ¬ (0 : Int32) ≤ -1 := by decide
end
section
/-! holders: what a place or a part of a pair adds to a blob's count -/
def qh_e (k x : Int32) (i : Nat) : Nat := if k = 3 ∧ x = nI i then 1 else 0
def qh_h (ho : Nat → Int32) (k x : Int32) : Nat → Int32 := if k = 3 then upd ho x.toNatClampNeg (ho x.toNatClampNeg + 1) else ho
def qh_l (ho : Nat → Int32) (k x : Int32) : Nat → Int32 := if k = 3 then upd ho x.toNatClampNeg (ho x.toNatClampNeg - 1) else ho
def qh_N (ho : Nat → Int32) (N : Nat → Nat) : Prop := ∀ i, i < 6 → ho i = nI (N i)
/-- a term whose blob, if it is one, is there -/
def qh_B (k x : Int32) : Prop := k = 3 → ∃ i, i < 6 ∧ x = nI i
theorem qh_e0 {k x : Int32} {i : Nat} (h : ¬ k = 3) : qh_e k x i = 0 := if_neg fun z => h z.1
theorem qh_e1 {k : Int32} {i : Nat} (h : k = 3) : qh_e k (nI i) i = 1 := if_pos ⟨h, rfl⟩
theorem qh_en {k : Int32} {i j : Nat} (hi : i < 6) (hj : j < 6) (h : ¬ i = j) : qh_e k (nI i) j = 0 := if_neg fun z => h (qn_inj (by omega) (by omega) z.2)
theorem qh_ele (k x : Int32) (i : Nat) : qh_e k x i ≤ 1 := by unfold qh_e; split <;> omega
theorem qh_epos {k x : Int32} {i : Nat} : 0 < qh_e k x i ↔ (k = 3 ∧ x = nI i) := by
  unfold qh_e
  by_cases h : k = 3 ∧ x = nI i
  · rw [if_pos h]; exact ⟨fun _ => h, fun _ => Nat.zero_lt_one⟩
  · rw [if_neg h]; exact ⟨fun z => absurd z (Nat.lt_irrefl 0), fun z => absurd z h⟩
theorem qh_up {ho : Nat → Int32} {N N' : Nat → Nat} {k x : Int32} (h : qh_N ho N) (hb : qh_B k x) (e : ∀ i, i < 6 → N' i = N i + qh_e k x i) : qh_N (qh_h ho k x) N' := by
  intro i hi
  rw [e i hi]
  by_cases hk : k = 3
  · obtain ⟨d, hd, rfl⟩ := hb hk
    rw [qh_h, if_pos hk, qn_c (by omega)]
    by_cases hid : i = d
    · subst hid
      rw [pk_us, qh_e1 hk, h i hi, nI_1]
    · rw [pk_un hid, qh_en hd hi (fun z => hid z.symm), h i hi, Nat.add_zero]
  · rw [qh_h, if_neg hk, qh_e0 hk, h i hi, Nat.add_zero]
theorem qh_dn {ho : Nat → Int32} {N N' : Nat → Nat} {k x : Int32} (h : qh_N ho N) (hb : qh_B k x) (e : ∀ i, i < 6 → N i = N' i + qh_e k x i) : qh_N (qh_l ho k x) N' := by
  intro i hi
  have ei := e i hi
  by_cases hk : k = 3
  · obtain ⟨d, hd, rfl⟩ := hb hk
    rw [qh_l, if_pos hk, qn_c (by omega)]
    by_cases hid : i = d
    · subst hid
      rw [qh_e1 hk] at ei
      rw [pk_us, h i hi, ei, nI_pred]
    · rw [qh_en hd hi (fun z => hid z.symm), Nat.add_zero] at ei
      rw [pk_un hid, h i hi, ei]
  · rw [qh_e0 hk, Nat.add_zero] at ei
    rw [qh_l, if_neg hk, h i hi, ei]
/-- what a cell adds -/
def qh_f (L : Nat → Bool) (hk hv tk tv : Nat → Int32) (i c : Nat) : Nat := if L c = true then qh_e (hk c) (hv c) i + qh_e (tk c) (tv c) i else 0
def qh_T (L : Nat → Bool) (pk pv hk hv tk tv : Nat → Int32) (i : Nat) : Nat :=
  qs_s (fun j => qh_e (pk j) (pv j) i) 21 + qs_s (qh_f L hk hv tk tv i) 120
theorem qh_Tle {L : Nat → Bool} {pk pv hk hv tk tv : Nat → Int32} {i : Nat} : qh_T L pk pv hk hv tk tv i ≤ 261 := by
  have a := qs_le (f := fun j => qh_e (pk j) (pv j) i) (b := 1) (n := 21) (fun j _ => qh_ele _ _ _)
  have b := qs_le (f := qh_f L hk hv tk tv i) (b := 2) (n := 120) (fun j _ => by
    unfold qh_f
    have := qh_ele (hk j) (hv j) i
    have := qh_ele (tk j) (tv j) i
    split <;> omega)
  unfold qh_T
  omega
/-- a place is written -/
theorem qh_Tp {L : Nat → Bool} {pk pv hk hv tk tv : Nat → Int32} {j : Nat} {k x : Int32} (i : Nat) (hj : j < 21) :
    qh_T L (upd pk j k) (upd pv j x) hk hv tk tv i + qh_e (pk j) (pv j) i = qh_T L pk pv hk hv tk tv i + qh_e k x i := by
  have a := qs_one (f := fun q => qh_e (upd pk j k q) (upd pv j x q) i) (g := fun q => qh_e (pk q) (pv q) i) (k := j) (n := 21) hj (fun q _ hne => by
    show qh_e (upd pk j k q) (upd pv j x q) i = qh_e (pk q) (pv q) i
    rw [pk_un hne, pk_un hne])
  rw [pk_us, pk_us] at a
  unfold qh_T
  omega
/-- places whose terms differ in pairs alone -/
theorem qh_Tpv {L : Nat → Bool} {pk pv pv' hk hv tk tv : Nat → Int32} (i : Nat) (h : ∀ j, j < 21 → pk j = 3 → pv' j = pv j) :
    qh_T L pk pv' hk hv tk tv i = qh_T L pk pv hk hv tk tv i := by
  unfold qh_T
  rw [qs_congr (f := fun j => qh_e (pk j) (pv' j) i) (g := fun j => qh_e (pk j) (pv j) i) (fun j hj => by
    show qh_e (pk j) (pv' j) i = qh_e (pk j) (pv j) i
    by_cases e : pk j = 3
    · rw [h j hj e]
    · rw [qh_e0 e, qh_e0 e])]
theorem qh_Tc {L L' : Nat → Bool} {pk pv hk hv tk tv hk' hv' tk' tv' : Nat → Int32} (i : Nat) (h : ∀ c, c < 120 → qh_f L' hk' hv' tk' tv' i c = qh_f L hk hv tk tv i c) :
    qh_T L' pk pv hk' hv' tk' tv' i = qh_T L pk pv hk hv tk tv i := by
  unfold qh_T
  rw [qs_congr (f := qh_f L' hk' hv' tk' tv' i) (g := qh_f L hk hv tk tv i) h]
/-- one cell changes -/
theorem qh_T1 {L L' : Nat → Bool} {pk pv hk hv tk tv hk' hv' tk' tv' : Nat → Int32} {d : Nat} (i : Nat) (hd : d < 120)
    (h : ∀ c, c < 120 → c ≠ d → qh_f L' hk' hv' tk' tv' i c = qh_f L hk hv tk tv i c) :
    qh_T L' pk pv hk' hv' tk' tv' i + qh_f L hk hv tk tv i d = qh_T L pk pv hk hv tk tv i + qh_f L' hk' hv' tk' tv' i d := by
  have a := qs_one (f := qh_f L' hk' hv' tk' tv' i) (g := qh_f L hk hv tk tv i) hd h
  unfold qh_T
  omega
theorem qh_f0 {L : Nat → Bool} {hk hv tk tv : Nat → Int32} {i c : Nat} (h : L c = false) : qh_f L hk hv tk tv i c = 0 := by
  rw [qh_f, if_neg (by rw [h]; decide)]
theorem qh_f1 {L : Nat → Bool} {hk hv tk tv : Nat → Int32} {i c : Nat} (h : L c = true) : qh_f L hk hv tk tv i c = qh_e (hk c) (hv c) i + qh_e (tk c) (tv c) i := if_pos h
theorem qh_fe {L L' : Nat → Bool} {hk hv tk tv hk' hv' tk' tv' : Nat → Int32} {i c : Nat} (hL : L' c = L c) (h : L c = true → hk' c = hk c ∧ hv' c = hv c ∧ tk' c = tk c ∧ tv' c = tv c) :
    qh_f L' hk' hv' tk' tv' i c = qh_f L hk hv tk tv i c := by
  cases e : L c with
  | false => rw [qh_f0 e, qh_f0 (hL.trans e)]
  | true =>
    obtain ⟨a, b, c, d⟩ := h e
    rw [qh_f1 e, qh_f1 (hL.trans e), a, b, c, d]
/-- assign -/
theorem qh_as {L : Nat → Bool} {pk pv hk hv tk tv ho : Nat → Int32} {j : Nat} {k x : Int32} (h : qh_N ho (qh_T L pk pv hk hv tk tv)) (hj : j < 21) (hb : qh_B k x) (hb' : qh_B (pk j) (pv j)) :
    qh_N (qh_l (qh_h ho k x) (pk j) (pv j)) (qh_T L (upd pk j k) (upd pv j x) hk hv tk tv) :=
  qh_dn (qh_up (N' := fun i => qh_T L pk pv hk hv tk tv i + qh_e k x i) h hb (fun _ _ => rfl)) hb' (fun i _ => (qh_Tp i hj).symm)
end
section
/-! the relation -/
def qr_ow (j : Nat) : Nat := if j < 12 then j / 4 else (j - 12) / 3
def qr_th (w : Nat → Nat) (j : Nat) : Prop := j < 12 ∨ (j - 12) % 3 < w ((j - 12) / 3)
/-- a term of X at process p -/
def qr_TW (L : Nat → Bool) (p : Nat) (k x : Int32) : Prop :=
  (k = 0 ∧ x = 0) ∨ k = 1 ∨ (k = 2 ∧ ∃ d, L d = true ∧ d / 40 = p ∧ x = nI d) ∨ (k = 3 ∧ ∃ i, i < 6 ∧ x = nI i)
/-- a term of X and one of Y -/
def qr_TC (φ : Nat → Nat) (k x k' y : Int32) : Prop := k' = k ∧ (k = 2 → y = nI (φ x.toNatClampNeg)) ∧ (k = 1 → y = x) ∧ (k = 3 → y = x)
def qr_XP (L : Nat → Bool) (pk pv : Nat → Int32) : Prop := ∀ j, j < 21 → qr_TW L (qr_ow j) (pk j) (pv j)
def qr_XC (L : Nat → Bool) (hk hv tk tv : Nat → Int32) : Prop := ∀ c, L c = true → c < 120 ∧ qr_TW L (c / 40) (hk c) (hv c) ∧ qr_TW L (c / 40) (tk c) (tv c)
def qr_XN (w : Nat → Nat) (pk pv : Nat → Int32) : Prop := ∀ j, j < 21 → ¬ qr_th w j → pk j = 0 ∧ pv j = 0
def qr_YP (φ w : Nat → Nat) (pk pv kd ct : Nat → Int32) : Prop := ∀ j, j < 21 → qr_th w j → qr_TC φ (pk j) (pv j) (kd j) (ct j)
def qr_YC (L : Nat → Bool) (φ : Nat → Nat) (hk hv tk tv kd ct : Nat → Int32) : Prop := ∀ c, L c = true →
  qr_TC φ (hk c) (hv c) (kd (21 + 2 * φ c)) (ct (21 + 2 * φ c)) ∧ qr_TC φ (tk c) (tv c) (kd (22 + 2 * φ c)) (ct (22 + 2 * φ c))
def qr_F (L : Nat → Bool) (φ : Nat → Nat) (uy : Nat → Int32) : Prop :=
  (∀ c, L c = true → φ c < 60 ∧ φ c / 20 = c / 40 ∧ uy (φ c) = 1) ∧ (∀ c d, L c = true → L d = true → φ c = φ d → c = d) ∧
  (∀ y, y < 60 → uy y = 0 ∨ (uy y = 1 ∧ ∃ c, L c = true ∧ φ c = y))
def qr_C (L : Nat → Bool) (φ w : Nat → Nat) (pk pv hk hv tk tv kd ct uy : Nat → Int32) : Prop :=
  qr_XP L pk pv ∧ qr_XC L hk hv tk tv ∧ qr_XN w pk pv ∧ qr_YP φ w pk pv kd ct ∧ qr_YC L φ hk hv tk tv kd ct ∧ qr_F L φ uy
def qr_D (m h w : Nat → Nat) (wt hf us ml : Nat → Int32) : Prop := ∀ p, p < 3 →
  m p ≤ 20 ∧ h p ≤ 1 ∧ w p ≤ 3 ∧ wt p = nI (w p) ∧ ml p = nI (w p) ∧ hf p = nI (h p) ∧ us p = nI (m p)
/-- the live cells -/
def qr_L (m h : Nat → Nat) (c : Nat) : Bool := decide (c < 120 ∧ 40 * (c / 40) + 20 * h (c / 40) ≤ c ∧ c < 40 * (c / 40) + 20 * h (c / 40) + m (c / 40))
def qr_R (φ m h w : Nat → Nat) (pk pv wt hf us hk hv tk tv fw ho kd ct ml uy : Nat → Int32) : Prop :=
  qr_D m h w wt hf us ml ∧ qr_C (qr_L m h) φ w pk pv hk hv tk tv kd ct uy ∧ (∀ c, c < 120 → fw c = -1) ∧ qh_N ho (qh_T (qr_L m h) pk pv hk hv tk tv)
def i_Rel (k : Nat) (u : SX) (v : SY) : Prop := match u with
  | (fl, pk, pv, wt, hf, us, hk, hv, tk, tv, fw, ho, li) => match v with
    | (kd, ct, ml, uy, rc, cp) => ∃ φ m h w : Nat → Nat, qr_R φ m h w pk pv wt hf us hk hv tk tv fw ho kd ct ml uy
theorem i_up {k : Nat} {u : SX} {v : SY} (h : i_Rel k u v) : i_Rel (k + 5) u v := h
theorem qr_Li {m h : Nat → Nat} {c : Nat} : qr_L m h c = true ↔ (c < 120 ∧ 40 * (c / 40) + 20 * h (c / 40) ≤ c ∧ c < 40 * (c / 40) + 20 * h (c / 40) + m (c / 40)) := by
  unfold qr_L
  exact decide_eq_true_iff
theorem qr_Lm {m h : Nat → Nat} {p c : Nat} (hp : p < 3) (hm : m p ≤ 20) (hh : h p ≤ 1) (h1 : 40 * p + 20 * h p ≤ c) (h2 : c < 40 * p + 20 * h p + m p) : qr_L m h c = true ∧ c / 40 = p := by
  have e : c / 40 = p := by omega
  refine ⟨qr_Li.mpr ?_, e⟩
  rw [e]
  omega
theorem qr_ow3 {j : Nat} (h : j < 21) : qr_ow j < 3 := by unfold qr_ow; split <;> omega
theorem qr_owr {p r : Nat} (hp : p < 3) (hr : r < 4) : qr_ow (4 * p + r) = p := by unfold qr_ow; rw [if_pos (by omega)]; omega
theorem qr_owm {p r : Nat} (hp : p < 3) (hr : r < 3) : qr_ow (12 + 3 * p + r) = p := by unfold qr_ow; rw [if_neg (by omega)]; omega
theorem qr_thr {w : Nat → Nat} {p r : Nat} (hp : p < 3) (hr : r < 4) : qr_th w (4 * p + r) := Or.inl (by omega)
theorem qr_thm {w : Nat → Nat} {p r : Nat} (hr : r < 3) : qr_th w (12 + 3 * p + r) ↔ r < w p := by
  have e1 : (12 + 3 * p + r - 12) % 3 = r := by omega
  have e2 : (12 + 3 * p + r - 12) / 3 = p := by omega
  unfold qr_th
  rw [e1, e2]
  constructor
  · rintro (h | h)
    · omega
    · exact h
  · exact Or.inr
/-- a place is a register or a mail -/
theorem qr_pl {j : Nat} (h : j < 21) : (∃ p r, p < 3 ∧ r < 4 ∧ j = 4 * p + r) ∨ (∃ p r, p < 3 ∧ r < 3 ∧ j = 12 + 3 * p + r) := by
  by_cases z : j < 12
  · exact Or.inl ⟨j / 4, j % 4, by omega, by omega, by omega⟩
  · exact Or.inr ⟨(j - 12) / 3, (j - 12) % 3, by omega, by omega, by omega⟩
theorem qr_TWB {L : Nat → Bool} {p : Nat} {k x : Int32} (h : qr_TW L p k x) : qh_B k x := by
  intro e
  rcases h with ⟨z, _⟩ | z | ⟨z, _⟩ | ⟨_, z⟩
  · exact absurd (z.symm.trans e) (by decide)
  · exact absurd (z.symm.trans e) (by decide)
  · exact absurd (z.symm.trans e) (by decide)
  · exact z
theorem qr_TW2 {L : Nat → Bool} {p : Nat} {k x : Int32} (h : qr_TW L p k x) (e : k = 2) : ∃ d, L d = true ∧ d / 40 = p ∧ x = nI d := by
  rcases h with ⟨z, _⟩ | z | ⟨_, z⟩ | ⟨z, _⟩
  · exact absurd (z.symm.trans e) (by decide)
  · exact absurd (z.symm.trans e) (by decide)
  · exact z
  · exact absurd (z.symm.trans e) (by decide)
theorem qr_TW0 {L : Nat → Bool} {p : Nat} {k x : Int32} (h : qr_TW L p k x) (e : k = 0) : x = 0 := by
  rcases h with ⟨_, z⟩ | z | ⟨z, _⟩ | ⟨z, _⟩
  · exact z
  · exact absurd (z.symm.trans e) (by decide)
  · exact absurd (z.symm.trans e) (by decide)
  · exact absurd (z.symm.trans e) (by decide)
/-- a term that isn't a pair keeps its form wherever it goes -/
theorem qr_TWn {L L' : Nat → Bool} {p p' : Nat} {k x : Int32} (h : qr_TW L p k x) (e : ¬ k = 2) : qr_TW L' p' k x := by
  rcases h with z | z | ⟨z, _⟩ | z
  · exact Or.inl z
  · exact Or.inr (Or.inl z)
  · exact absurd z e
  · exact Or.inr (Or.inr (Or.inr z))
theorem qr_TWm {L L' : Nat → Bool} {p : Nat} {k x : Int32} (h : qr_TW L p k x) (e : ∀ d, L d = true → d / 40 = p → L' d = true) : qr_TW L' p k x := by
  rcases h with z | z | ⟨z, d, a, b, c⟩ | z
  · exact Or.inl z
  · exact Or.inr (Or.inl z)
  · exact Or.inr (Or.inr (Or.inl ⟨z, d, e d a b, b, c⟩))
  · exact Or.inr (Or.inr (Or.inr z))
theorem qr_TW00 {L : Nat → Bool} {p : Nat} : qr_TW L p 0 0 := Or.inl ⟨rfl, rfl⟩
theorem qr_TC00 {φ : Nat → Nat} {y : Int32} : qr_TC φ 0 0 0 y := ⟨rfl, fun z => absurd z (by decide), fun z => absurd z (by decide), fun z => absurd z (by decide)⟩
theorem qr_TCn {φ φ' : Nat → Nat} {k x k' y : Int32} (h : qr_TC φ k x k' y) (e : ¬ k = 2) : qr_TC φ' k x k' y := ⟨h.1, fun z => absurd z e, h.2.2⟩
theorem qr_TCe {φ φ' : Nat → Nat} {k x k' y : Int32} (h : qr_TC φ k x k' y) (e : k = 2 → φ' x.toNatClampNeg = φ x.toNatClampNeg) : qr_TC φ' k x k' y :=
  ⟨h.1, fun z => (h.2.1 z).trans (by rw [e z]), h.2.2⟩
/-- one place is written on both sides -/
theorem qr_as {L : Nat → Bool} {φ w : Nat → Nat} {pk pv hk hv tk tv kd ct uy : Nat → Int32} {j : Nat} {k x k' y : Int32} (H : qr_C L φ w pk pv hk hv tk tv kd ct uy)
    (hj : j < 21) (ht : qr_th w j) (hw : qr_TW L (qr_ow j) k x) (hc : qr_TC φ k x k' y) :
    qr_C L φ w (upd pk j k) (upd pv j x) hk hv tk tv (upd kd j k') (upd ct j y) uy := by
  obtain ⟨a, b, c, d, e, f⟩ := H
  refine ⟨fun q hq => ?_, b, fun q hq hn => ?_, fun q hq hn => ?_, fun q hq => ?_, f⟩
  · by_cases z : q = j
    · subst z
      rw [pk_us, pk_us]
      exact hw
    · rw [pk_un z, pk_un z]
      exact a q hq
  · by_cases z : q = j
    · subst z
      exact absurd ht hn
    · rw [pk_un z, pk_un z]
      exact c q hq hn
  · by_cases z : q = j
    · subst z
      rw [pk_us, pk_us, pk_us, pk_us]
      exact hc
    · rw [pk_un z, pk_un z, pk_un z, pk_un z]
      exact d q hq hn
  · rw [pk_un (show 21 + 2 * φ q ≠ j by omega), pk_un (show 21 + 2 * φ q ≠ j by omega), pk_un (show 22 + 2 * φ q ≠ j by omega), pk_un (show 22 + 2 * φ q ≠ j by omega)]
    exact e q hq
end
section
/-! X's small methods -/
section
variable {fl : Int32} {pk pv wt hf us hk hv tk tv fw ho li : Nat → Int32}
theorem qx_hold {post : SX → Prop} {k x : Int32} (hb : qh_B k x) (h : post (fl, pk, pv, wt, hf, us, hk, hv, tk, tv, fw, qh_h ho k x, li)) :
    wpX_hold post (fl, pk, pv, wt, hf, us, hk, hv, tk, tv, fw, ho, li) k x := by
  by_cases e : k = 3
  · obtain ⟨i, hi, rfl⟩ := hb e
    have hin : vp_in (nI i) 6 := vp_in_nI hi (by decide)
    rw [qh_h, if_pos e] at h
    exact br_t e ⟨hin, hin, nm_e h⟩
  · rw [qh_h, if_neg e] at h
    exact br_f e h
theorem qx_letGo {post : SX → Prop} {k x : Int32} (hb : qh_B k x) (h : post (fl, pk, pv, wt, hf, us, hk, hv, tk, tv, fw, qh_l ho k x, li)) :
    wpX_letGo post (fl, pk, pv, wt, hf, us, hk, hv, tk, tv, fw, ho, li) k x := by
  by_cases e : k = 3
  · obtain ⟨i, hi, rfl⟩ := hb e
    have hin : vp_in (nI i) 6 := vp_in_nI hi (by decide)
    rw [qh_l, if_pos e] at h
    exact br_t e ⟨hin, hin, nm_e h⟩
  · rw [qh_l, if_neg e] at h
    exact br_f e h
theorem qx_assign {post : SX → Prop} {j : Nat} {k x : Int32} (hj : j < 21) (hb : qh_B k x) (hb' : qh_B (pk j) (pv j))
    (h : post (fl, upd pk j k, upd pv j x, wt, hf, us, hk, hv, tk, tv, fw, qh_l (qh_h ho k x) (pk j) (pv j), li)) :
    wpX_assign post (fl, pk, pv, wt, hf, us, hk, hv, tk, tv, fw, ho, li) (nI j) k x := by
  have hin : vp_in (nI j) 21 := vp_in_nI hj (by decide)
  have hc : (nI j).toNatClampNeg = j := qn_c (by omega)
  unfold wpX_assign
  dsimp only
  rw [hc]
  refine qx_hold hb ⟨hin, hin, qx_letGo hb' ⟨hin, nm_e ⟨hin, nm_e h⟩⟩⟩
theorem qx_fresh {post : Int32 → SX → Prop} {p a b : Nat} (hp : p < 3) (e1 : hf p = nI a) (e2 : us p = nI b)
    (h : post (nI (40 * p + 20 * a + b)) (fl, pk, pv, wt, hf, upd us p (nI (b + 1)), hk, hv, tk, tv, fw, ho, li)) :
    wpX_freshPair post (fl, pk, pv, wt, hf, us, hk, hv, tk, tv, fw, ho, li) (nI p) := by
  have hin : vp_in (nI p) 3 := vp_in_nI hp (by decide)
  have hc : (nI p).toNatClampNeg = p := qn_c (by omega)
  unfold wpX_freshPair
  dsimp only
  rw [hc, e1, e2, qn_base, nI_add, nI_1]
  exact ⟨hin, hin, nm_e ⟨hin, hin, nm_e h⟩⟩
theorem qx_fill {post : SX → Prop} {c : Nat} {k1 x1 k2 x2 : Int32} (hc : c < 120) (b1 : qh_B k1 x1) (b2 : qh_B k2 x2)
    (h : post (fl, pk, pv, wt, hf, us, upd hk c k1, upd hv c x1, upd tk c k2, upd tv c x2, fw, qh_h (qh_h ho k1 x1) k2 x2, li)) :
    wpX_fill post (fl, pk, pv, wt, hf, us, hk, hv, tk, tv, fw, ho, li) (nI c) k1 x1 k2 x2 := by
  have hin : vp_in (nI c) 120 := vp_in_nI hc (by decide)
  have hn : (nI c).toNatClampNeg = c := qn_c (by omega)
  unfold wpX_fill
  dsimp only
  rw [hn]
  exact qx_hold b1 (qx_hold b2 ⟨hin, nm_e ⟨hin, nm_e ⟨hin, nm_e ⟨hin, nm_e h⟩⟩⟩⟩)
theorem qx_moved1 {post : Int32 → SX → Prop} {p : Int32} {c d : Nat} (hc : c < 120) (hd : d < 120) (e : fw c = nI d)
    (h : post (nI d) (fl, pk, pv, wt, hf, us, hk, hv, tk, tv, fw, ho, li)) : wpX_moved post (fl, pk, pv, wt, hf, us, hk, hv, tk, tv, fw, ho, li) (nI c) p := by
  have hin : vp_in (nI c) 120 := vp_in_nI hc (by decide)
  have hn : (nI c).toNatClampNeg = c := qn_c (by omega)
  unfold wpX_moved
  dsimp only
  rw [hn, e]
  exact ⟨hin, br_t (nI_pos' (by omega)) ⟨hin, h⟩⟩
theorem qx_moved0 {post : Int32 → SX → Prop} {p c a b t : Nat} (hp : p < 3) (hc : c < 120) (ht : t < 120) (et : t = 40 * p + 20 * a + b) (e1 : hf p = nI a) (e2 : us p = nI b) (e : fw c = -1)
    (h : post (nI t) (fl, pk, pv, wt, hf, upd us p (nI (b + 1)), upd hk t (hk c), upd hv t (hv c), upd tk t (tk c), upd tv t (tv c), upd fw c (nI t), ho, li)) :
    wpX_moved post (fl, pk, pv, wt, hf, us, hk, hv, tk, tv, fw, ho, li) (nI c) (nI p) := by
  have hin : vp_in (nI c) 120 := vp_in_nI hc (by decide)
  have hit : vp_in (nI t) 120 := vp_in_nI ht (by decide)
  have hn : (nI c).toNatClampNeg = c := qn_c (by omega)
  have hnt : (nI t).toNatClampNeg = t := qn_c (by omega)
  unfold wpX_moved
  dsimp only
  rw [hn, e]
  refine ⟨hin, br_f qn_m1 (qx_fresh hp e1 e2 ?_)⟩
  rw [← et]
  dsimp only
  rw [hnt]
  refine ⟨hin, hit, nm_e ⟨hin, hit, nm_e ⟨hin, hit, nm_e ⟨hin, hit, nm_e ⟨hin, nm_e ⟨hin, ?_⟩⟩⟩⟩⟩⟩
  rw [pk_us]
  exact h
theorem qx_enl0 {post : SX → Prop} {k x : Int32} (e : ¬ k = 2) (h : post (fl, pk, pv, wt, hf, us, hk, hv, tk, tv, fw, ho, li)) :
    wpX_enlist post (fl, pk, pv, wt, hf, us, hk, hv, tk, tv, fw, ho, li) k x := br_f e h
theorem qx_enl1 {post : SX → Prop} {k : Int32} {c d : Nat} (e : k = 2) (hc : c < 120) (hd : d < 120) (ef : fw c = nI d) (h : post (fl, pk, pv, wt, hf, us, hk, hv, tk, tv, fw, ho, li)) :
    wpX_enlist post (fl, pk, pv, wt, hf, us, hk, hv, tk, tv, fw, ho, li) k (nI c) := by
  have hin : vp_in (nI c) 120 := vp_in_nI hc (by decide)
  have hn : (nI c).toNatClampNeg = c := qn_c (by omega)
  unfold wpX_enlist
  dsimp only
  rw [hn, ef]
  exact br_t e ⟨hin, br_t (nI_pos' (by omega)) h⟩
theorem qx_enl2 {post : SX → Prop} {k : Int32} {c N : Nat} (e : k = 2) (hc : c < 120) (ef : fw c = -1) (hN : N < 20)
    (h : post (nI (N + 1), pk, pv, wt, hf, us, hk, hv, tk, tv, upd fw c (nI c), ho, upd li N (nI c))) :
    wpX_enlist post (nI N, pk, pv, wt, hf, us, hk, hv, tk, tv, fw, ho, li) k (nI c) := by
  have hin : vp_in (nI c) 120 := vp_in_nI hc (by decide)
  have hiN : vp_in (nI N) 20 := vp_in_nI hN (by decide)
  have hn : (nI c).toNatClampNeg = c := qn_c (by omega)
  have hnN : (nI N).toNatClampNeg = N := qn_c (by omega)
  unfold wpX_enlist
  dsimp only
  rw [hn, ef, hnN, nI_1]
  exact br_t e ⟨hin, br_f qn_m1 ⟨hin, nm_e ⟨hiN, nm_e (nm_e h)⟩⟩⟩
/-- forgetForwards -/
theorem qx_forg_l {N : Nat} {g : Nat → Nat} (hN : N ≤ 20) (hg : ∀ i, i < N → g i < 120 ∧ li i = nI (g i)) : ∀ (d i : Nat) (fw : Nat → Int32), i + d = N →
    (∀ c, c < 120 → fw c = -1 ∨ ∃ k, i ≤ k ∧ k < N ∧ g k = c) → ∃ fw' : Nat → Int32, (∀ c, c < 120 → fw' c = -1) ∧
    ∀ post : SX → Prop, post (nI N, pk, pv, wt, hf, us, hk, hv, tk, tv, fw', ho, li) → ∀ n, d < n → wX_forgetForwards_2 post (nI N) n (nI i) pk pv wt hf us hk hv tk tv fw ho li := by
  intro d
  induction d with
  | zero =>
    intro i fw hi hF
    have e : i = N := by omega
    subst e
    refine ⟨fw, fun c hc => ?_, fun post h n hn => ?_⟩
    · rcases hF c hc with z | ⟨k, h1, h2, _⟩
      · exact z
      · omega
    · cases n with
      | zero => omega
      | succ n => exact br_t (nI_le (Nat.le_refl i) (by omega)) h
  | succ d ih =>
    intro i fw hi hF
    obtain ⟨hg1, hg2⟩ := hg i (by omega)
    obtain ⟨fw', h1, h2⟩ := ih (i + 1) (upd fw (g i) (-1)) (by omega) (fun c hc => by
      by_cases e : c = g i
      · subst e
        exact Or.inl pk_us
      · rw [pk_un e]
        rcases hF c hc with z | ⟨k, h1, h2, h3⟩
        · exact Or.inl z
        · refine Or.inr ⟨k, ?_, h2, h3⟩
          rcases Nat.lt_or_ge i k with z | z
          · exact z
          · have e2 : k = i := by omega
            subst e2
            exact absurd h3.symm e)
    refine ⟨fw', h1, fun post h n hn => ?_⟩
    cases n with
    | zero => omega
    | succ n =>
      have a := h2 post h n (by omega)
      unfold wX_forgetForwards_2
      refine br_f (nI_ge (by omega) (by omega)) ⟨vp_in_nI (by omega) (by decide), ?_⟩
      rw [qn_c (a := i) (by omega), hg2, qn_c (by omega), nI_1]
      exact ⟨vp_in_nI hg1 (by decide), nm_e (nm_e a)⟩
theorem qx_forg {N : Nat} {g : Nat → Nat} (hN : N ≤ 20) (hg : ∀ i, i < N → g i < 120 ∧ li i = nI (g i)) (hF : ∀ c, c < 120 → fw c = -1 ∨ ∃ k, k < N ∧ g k = c) :
    ∃ fw' : Nat → Int32, (∀ c, c < 120 → fw' c = -1) ∧
    ∀ post : SX → Prop, post (nI N, pk, pv, wt, hf, us, hk, hv, tk, tv, fw', ho, li) → wpX_forgetForwards post (nI N, pk, pv, wt, hf, us, hk, hv, tk, tv, fw, ho, li) := by
  obtain ⟨fw', h1, h2⟩ := qx_forg_l (pk := pk) (pv := pv) (wt := wt) (hf := hf) (us := us) (hk := hk) (hv := hv) (tk := tk) (tv := tv) (ho := ho) hN hg N 0 fw (by omega) (fun c hc => by
    rcases hF c hc with z | ⟨k, h1, h2⟩
    · exact Or.inl z
    · exact Or.inr ⟨k, by omega, h1, h2⟩)
  exact ⟨fw', h1, fun post h => Exists.intro (N + 1) (h2 post h (N + 1) (by omega))⟩
/-- keptBlobs -/
theorem qx_kept_l {post : Int32 → Prop} {T : Nat → Nat} (hT : ∀ i, i < 6 → ho i = nI (T i) ∧ T i < 1000) (h : post (nI (qs_s (fun i => if T i = 0 then 0 else 1) 6))) : ∀ d j n, j + d = 6 → d < n →
    wX_keptBlobs_4 post fl pk pv wt hf us hk hv tk tv fw ho li n (nI (qs_s (fun i => if T i = 0 then 0 else 1) j)) (nI j) := by
  intro d
  induction d with
  | zero =>
    intro j n hj hn
    have e : j = 6 := by omega
    subst e
    cases n with
    | zero => omega
    | succ n => exact br_t (by decide) h
  | succ d ih =>
    intro j n hj hn
    cases n with
    | zero => omega
    | succ n =>
      have a := ih (j + 1) n (by omega) (by omega)
      obtain ⟨h1, h2⟩ := hT j (by omega)
      unfold wX_keptBlobs_4
      refine br_f (nI_ge (b := 6) (by omega) (by decide)) ⟨vp_in_nI (by omega) (by decide), ?_⟩
      rw [qn_c (by omega), h1, nI_1 j, nI_1]
      by_cases e : T j = 0
      · rw [show qs_s (fun i => if T i = 0 then 0 else 1) (j + 1) = qs_s (fun i => if T i = 0 then 0 else 1) j by simp only [qs_s, if_pos e]; omega] at a
        rw [e]
        exact br_t (by decide) (nm_e a)
      · rw [show qs_s (fun i => if T i = 0 then 0 else 1) (j + 1) = qs_s (fun i => if T i = 0 then 0 else 1) j + 1 by simp only [qs_s, if_neg e]] at a
        exact br_f (nI_nle (by omega) (by omega)) (nm_e (nm_e a))
theorem qx_kept {post : Int32 → Prop} {T : Nat → Nat} (hT : ∀ i, i < 6 → ho i = nI (T i) ∧ T i < 1000) (h : post (nI (qs_s (fun i => if T i = 0 then 0 else 1) 6))) :
    wpX_keptBlobs post (fl, pk, pv, wt, hf, us, hk, hv, tk, tv, fw, ho, li) := Exists.intro 7 (qx_kept_l hT h 6 0 7 rfl (by omega))
/-- leastFreeBlob: i is the first that is held by none -/
theorem qx_least_l {post : Int32 → Prop} {T : Nat → Nat} {i : Nat} (hT : ∀ i, i < 6 → ho i = nI (T i) ∧ T i < 1000) (hi : i < 6) (h0 : T i = 0) (hl : ∀ j, j < i → ¬ T j = 0) (h : post (nI i)) : ∀ d j n, j + d = i → d < n →
    wX_leastFreeBlob_2 post fl pk pv wt hf us hk hv tk tv fw ho li n (nI j) := by
  intro d
  induction d with
  | zero =>
    intro j n hj hn
    have e : j = i := by omega
    subst e
    cases n with
    | zero => omega
    | succ n =>
      unfold wX_leastFreeBlob_2
      refine br_f (nI_ge (b := 6) (by omega) (by decide)) ⟨vp_in_nI (by omega) (by decide), ?_⟩
      rw [qn_c (by omega), (hT j hi).1, h0]
      exact br_t rfl h
  | succ d ih =>
    intro j n hj hn
    cases n with
    | zero => omega
    | succ n =>
      have a := ih (j + 1) n (by omega) (by omega)
      obtain ⟨h1, h2⟩ := hT j (by omega)
      have h3 := hl j (by omega)
      unfold wX_leastFreeBlob_2
      refine br_f (nI_ge (b := 6) (by omega) (by decide)) ⟨vp_in_nI (by omega) (by decide), ?_⟩
      rw [qn_c (by omega), h1, nI_1 j]
      exact br_f (nI_ne0 (by omega) (by omega)) (nm_e a)
theorem qx_least {post : Int32 → Prop} {T : Nat → Nat} {i : Nat} (hT : ∀ i, i < 6 → ho i = nI (T i) ∧ T i < 1000) (hi : i < 6) (h0 : T i = 0) (hl : ∀ j, j < i → ¬ T j = 0) (h : post (nI i)) :
    wpX_leastFreeBlob post (fl, pk, pv, wt, hf, us, hk, hv, tk, tv, fw, ho, li) := Exists.intro (i + 1) (qx_least_l hT hi h0 hl h i 0 (i + 1) (by omega) (by omega))
end
/-! fits and bad -/
theorem qb_fit (p r : Int32) : (∃ P R, P < 3 ∧ R < 4 ∧ p = nI P ∧ r = nI R) ∨ ((∀ post : Int32 → Prop, post 0 → wpX_fits post p r) ∧ (∀ post : Int32 → Prop, post 1 → wpY_bad post p r)) := by
  by_cases h1 : p < 0
  · exact Or.inr ⟨fun _ h => br_t h1 h, fun _ h => br_t h1 h⟩
  by_cases h2 : 2 < p
  · exact Or.inr ⟨fun _ h => br_f h1 (br_t h2 h), fun _ h => br_f h1 (br_t h2 h)⟩
  by_cases h3 : r < 0
  · exact Or.inr ⟨fun _ h => br_f h1 (br_f h2 (br_t h3 h)), fun _ h => br_f h1 (br_f h2 (br_t h3 h))⟩
  by_cases h4 : 3 < r
  · exact Or.inr ⟨fun _ h => br_f h1 (br_f h2 (br_f h3 (br_t h4 h))), fun _ h => br_f h1 (br_f h2 (br_f h3 (br_f (Int32.not_le.mpr h4) h)))⟩
  obtain ⟨P, hP, e1⟩ := nI_of2 (M := 2) (n := 2) (by decide) h1 (Int32.not_lt.mp h2)
  obtain ⟨R, hR, e2⟩ := nI_of2 (M := 3) (n := 3) (by decide) h3 (Int32.not_lt.mp h4)
  exact Or.inl ⟨P, R, by omega, by omega, e1, e2⟩
theorem qx_fit1 {post : Int32 → Prop} {P R : Nat} (hP : P < 3) (hR : R < 4) (h : post 1) : wpX_fits post (nI P) (nI R) :=
  br_f (nI_pos (by omega)) (br_f (nI_nlt (a := 2) (by omega) (by decide)) (br_f (nI_pos (by omega)) (br_f (nI_nlt (a := 3) (by omega) (by decide)) h)))
theorem qy_bad0 {post : Int32 → Prop} {P R : Nat} (hP : P < 3) (hR : R < 4) (h : post 0) : wpY_bad post (nI P) (nI R) :=
  br_f (nI_pos (by omega)) (br_f (nI_nlt (a := 2) (by omega) (by decide)) (br_f (nI_pos (by omega)) (br_t (nI_le (b := 3) (by omega) (by decide)) h)))
end
section
/-! Y's small methods -/
def qy_t (w : Nat → Nat) (uy : Nat → Int32) (q : Nat) : Prop := q < 12 ∨ (12 ≤ q ∧ q < 21 ∧ (q - 12) % 3 < w ((q - 12) / 3)) ∨ (21 ≤ q ∧ uy ((q - 21) / 2) = 1)
def qy_H (w : Nat → Nat) (uy kd ct : Nat → Int32) (x1 x2 : Int32) (a : Nat) : Prop := ∃ q, a ≤ q ∧ q < 141 ∧ ¬ nI q = x2 ∧ kd q = 3 ∧ ct q = x1 ∧ qy_t w uy q
section
variable {kd ct ml uy rc cp : Nat → Int32}
theorem qy_set {post : SY → Prop} {q : Nat} {k x : Int32} (hq : q < 141) (h : post (upd kd q k, upd ct q x, ml, uy, rc, cp)) :
    wpY_set post (kd, ct, ml, uy, rc, cp) (nI q) k x := by
  have hin : vp_in (nI q) 141 := vp_in_nI hq (by decide)
  have hc : (nI q).toNatClampNeg = q := qn_c (by omega)
  unfold wpY_set
  dsimp only
  rw [hc]
  exact ⟨hin, nm_e ⟨hin, nm_e h⟩⟩
theorem qy_take {post : SY → Prop} {q s : Nat} (hq : q < 141) (hs : s < 141) (h : post (upd kd q (kd s), upd ct q (ct s), ml, uy, rc, cp)) :
    wpY_take post (kd, ct, ml, uy, rc, cp) (nI q) (nI s) := by
  have hin : vp_in (nI s) 141 := vp_in_nI hs (by decide)
  have hc : (nI s).toNatClampNeg = s := qn_c (by omega)
  unfold wpY_take
  dsimp only
  rw [hc]
  exact ⟨hin, hin, qy_set hq h⟩
theorem qy_tc0 {post : SY → Prop} {q s : Nat} (hq : q < 141) (hs : s < 141) (e : ¬ kd s = 2) (h : post (upd kd q (kd s), upd ct q (ct s), ml, uy, rc, cp)) :
    wpY_takeCopy post (kd, ct, ml, uy, rc, cp) (nI q) (nI s) := by
  have hin : vp_in (nI s) 141 := vp_in_nI hs (by decide)
  have hc : (nI s).toNatClampNeg = s := qn_c (by omega)
  unfold wpY_takeCopy
  dsimp only
  rw [hc]
  exact ⟨hin, br_f e (qy_take hq hs h)⟩
theorem qy_tc1 {post : SY → Prop} {q s d : Nat} (hq : q < 141) (hs : s < 141) (e : kd s = 2) (hd : d < 60) (ed : ct s = nI d) (h : post (upd kd q 2, upd ct q (cp d), ml, uy, rc, cp)) :
    wpY_takeCopy post (kd, ct, ml, uy, rc, cp) (nI q) (nI s) := by
  have hin : vp_in (nI s) 141 := vp_in_nI hs (by decide)
  have hin2 : vp_in (nI d) 60 := vp_in_nI hd (by decide)
  have hc : (nI s).toNatClampNeg = s := qn_c (by omega)
  have hc2 : (nI d).toNatClampNeg = d := qn_c (by omega)
  unfold wpY_takeCopy
  dsimp only
  rw [hc, ed, hc2]
  exact ⟨hin, br_t e ⟨hin, hin2, qy_set hq h⟩⟩
theorem qy_there {post : Int32 → Prop} {w : Nat → Nat} {q : Nat} (hw : ∀ p, p < 3 → w p ≤ 3 ∧ ml p = nI (w p)) (hu : ∀ y, y < 60 → uy y = 0 ∨ uy y = 1) (hq : q < 141)
    (h1 : qy_t w uy q → post 1) (h0 : ¬ qy_t w uy q → post 0) : wpY_there post (kd, ct, ml, uy, rc, cp) (nI q) := by
  unfold wpY_there
  dsimp only
  refine pk_le 12 q (fun h12 => pk_le 21 q (fun h21 => ?_) (fun h21 => ?_)) (fun h12 => h1 (Or.inl h12))
  · rw [qn_own q h21 hq, qn_c (by omega)]
    refine ⟨by decide, vp_in_nI (by omega) (by decide), ?_⟩
    rcases hu ((q - 21) / 2) (by omega) with z | z
    · rw [z]
      exact ⟨rfl, h0 (by
        rintro (a | a | a)
        · omega
        · omega
        · rw [z] at a
          exact absurd a.2 (by decide))⟩
    · rw [z]
      exact ⟨rfl, h1 (Or.inr (Or.inr ⟨h21, z⟩))⟩
  · obtain ⟨w1, w2⟩ := hw ((q - 12) / 3) (by omega)
    have e : nI q - 12 = nI (q - 12) := pk_sub (b := 12) h12
    have e3 : nI (q - 12) / 3 = nI ((q - 12) / 3) := pk_div (d := 3) (by omega) (by decide) (by decide)
    have e4 : nI (q - 12) - nI ((q - 12) / 3) * 3 = nI ((q - 12) % 3) := by
      rw [← e3]
      exact pk_rem (d := 3) (by omega) (by decide) (by decide)
    rw [e, e3, e4, qn_c (by omega), w2]
    refine ⟨by decide, by decide, vp_in_nI (by omega) (by decide), ?_⟩
    refine pk_le (w ((q - 12) / 3)) ((q - 12) % 3) (fun a => h0 ?_) (fun a => h1 (Or.inr (Or.inl ⟨h12, h21, a⟩)))
    rintro (b | b | b)
    · omega
    · omega
    · omega
theorem qy_held_l {w : Nat → Nat} {x1 x2 : Int32} (hw : ∀ p, p < 3 → w p ≤ 3 ∧ ml p = nI (w p)) (hu : ∀ y, y < 60 → uy y = 0 ∨ uy y = 1) : ∀ d q, q + d = 141 →
    ∃ r : Int32, ((r = 1 ∧ qy_H w uy kd ct x1 x2 q) ∨ (r = 0 ∧ ¬ qy_H w uy kd ct x1 x2 q)) ∧ ∀ post : Int32 → Prop, post r → ∀ n, d < n → wY_held_2 post x1 x2 kd ct ml uy rc cp n (nI q) := by
  intro d
  induction d with
  | zero =>
    intro q hq
    have e : q = 141 := by omega
    subst e
    refine ⟨0, Or.inr ⟨rfl, ?_⟩, fun post h n hn => ?_⟩
    · rintro ⟨a, h1, h2, _⟩
      omega
    · cases n with
      | zero => omega
      | succ n => exact br_t (by decide) h
  | succ d ih =>
    intro q hq
    have hin : vp_in (nI q) 141 := vp_in_nI (by omega) (by decide)
    have hge : ¬ (141 : Int32) ≤ nI q := nI_ge (b := 141) (by omega) (by decide)
    obtain ⟨r, hr, hW⟩ := ih (q + 1) (by omega)
    have keep : ¬ (¬ nI q = x2 ∧ kd q = 3 ∧ ct q = x1 ∧ qy_t w uy q) → ((r = 1 ∧ qy_H w uy kd ct x1 x2 q) ∨ (r = 0 ∧ ¬ qy_H w uy kd ct x1 x2 q)) := by
      intro hn
      rcases hr with ⟨e, a, h1, h2⟩ | ⟨e, h⟩
      · exact Or.inl ⟨e, a, by omega, h2⟩
      · refine Or.inr ⟨e, ?_⟩
        rintro ⟨a, h1, h2, h3⟩
        rcases Nat.lt_or_ge q a with z | z
        · exact h ⟨a, z, h2, h3⟩
        · have e2 : a = q := by omega
          subst e2
          exact hn h3
    by_cases c1 : nI q = x2
    · refine ⟨r, keep (fun z => z.1 c1), fun post h n hn => ?_⟩
      cases n with
      | zero => omega
      | succ n => exact br_f hge (br_t c1 (nm_r (nI_1 q) (hW post h n (by omega))))
    by_cases c2 : kd q = 3
    rotate_left
    · refine ⟨r, keep (fun z => c2 z.2.1), fun post h n hn => ?_⟩
      cases n with
      | zero => omega
      | succ n =>
        unfold wY_held_2
        rw [qn_c (by omega)]
        exact br_f hge (br_f c1 ⟨hin, br_f c2 (nm_r (nI_1 q) (hW post h n (by omega)))⟩)
    by_cases c3 : ct q = x1
    rotate_left
    · refine ⟨r, keep (fun z => c3 z.2.2.1), fun post h n hn => ?_⟩
      cases n with
      | zero => omega
      | succ n =>
        unfold wY_held_2
        rw [qn_c (by omega)]
        exact br_f hge (br_f c1 ⟨hin, br_t c2 ⟨hin, br_f c3 (nm_r (nI_1 q) (hW post h n (by omega)))⟩⟩)
    by_cases c4 : qy_t w uy q
    · refine ⟨1, Or.inl ⟨rfl, q, Nat.le_refl q, by omega, c1, c2, c3, c4⟩, fun post h n hn => ?_⟩
      cases n with
      | zero => omega
      | succ n =>
        unfold wY_held_2
        rw [qn_c (by omega)]
        refine br_f hge (br_f c1 ⟨hin, br_t c2 ⟨hin, br_t c3 (qy_there hw hu (by omega) (fun _ => ?_) (fun z => absurd c4 z))⟩⟩)
        exact br_f (by decide) h
    · refine ⟨r, keep (fun z => c4 z.2.2.2), fun post h n hn => ?_⟩
      cases n with
      | zero => omega
      | succ n =>
        unfold wY_held_2
        rw [qn_c (by omega)]
        refine br_f hge (br_f c1 ⟨hin, br_t c2 ⟨hin, br_t c3 (qy_there hw hu (by omega) (fun z => absurd z c4) (fun _ => ?_))⟩⟩)
        exact br_t rfl (nm_r (nI_1 q) (hW post h n (by omega)))
theorem qy_held {w : Nat → Nat} {x1 x2 : Int32} (hw : ∀ p, p < 3 → w p ≤ 3 ∧ ml p = nI (w p)) (hu : ∀ y, y < 60 → uy y = 0 ∨ uy y = 1) :
    ∃ r : Int32, ((r = 1 ∧ qy_H w uy kd ct x1 x2 0) ∨ (r = 0 ∧ ¬ qy_H w uy kd ct x1 x2 0)) ∧ ∀ post : Int32 → Prop, post r → wpY_held post (kd, ct, ml, uy, rc, cp) x1 x2 := by
  obtain ⟨r, h1, h2⟩ := qy_held_l (kd := kd) (ct := ct) (rc := rc) (cp := cp) (x1 := x1) (x2 := x2) hw hu 141 0 rfl
  exact ⟨r, h1, fun post h => Exists.intro 142 (h2 post h 142 (by omega))⟩
/-- count -/
theorem qy_count_l {post : Int32 → Prop} {p : Nat} (hp : p < 3) (h : post (nI (qs_s (fun i => if uy (20 * p + i) = 0 then 0 else 1) 20))) : ∀ d j n, j + d = 20 → d < n →
    wY_count_7 post (nI p) kd ct ml uy rc cp n (nI (qs_s (fun i => if uy (20 * p + i) = 0 then 0 else 1) j)) (nI (20 * p + j)) := by
  intro d
  induction d with
  | zero =>
    intro j n hj hn
    have e : j = 20 := by omega
    subst e
    cases n with
    | zero => omega
    | succ n =>
      unfold wY_count_7
      rw [qn_20p]
      exact br_t (nI_le (Nat.le_refl _) (by omega)) h
  | succ d ih =>
    intro j n hj hn
    cases n with
    | zero => omega
    | succ n =>
      have a := ih (j + 1) n (by omega) (by omega)
      unfold wY_count_7
      rw [qn_20p]
      refine br_f (nI_ge (by omega) (by omega)) ⟨vp_in_nI (by omega) (by decide), ?_⟩
      rw [qn_c (by omega), nI_1, nI_1]
      by_cases e : uy (20 * p + j) = 0
      · rw [show qs_s (fun i => if uy (20 * p + i) = 0 then 0 else 1) (j + 1) = qs_s (fun i => if uy (20 * p + i) = 0 then 0 else 1) j by simp only [qs_s, if_pos e]; omega] at a
        exact br_t e (nm_e a)
      · rw [show qs_s (fun i => if uy (20 * p + i) = 0 then 0 else 1) (j + 1) = qs_s (fun i => if uy (20 * p + i) = 0 then 0 else 1) j + 1 by simp only [qs_s, if_neg e]] at a
        exact br_f e (nm_e (nm_e a))
theorem qy_count {post : Int32 → Prop} {p : Nat} (hp : p < 3) (h : post (nI (qs_s (fun i => if uy (20 * p + i) = 0 then 0 else 1) 20))) :
    wpY_count post (kd, ct, ml, uy, rc, cp) (nI p) := by
  unfold wpY_count
  dsimp only
  rw [qn_20]
  exact nm_e (Exists.intro 21 (qy_count_l hp h 20 0 21 rfl (by omega)))
/-- found -/
theorem qy_found_l {post : Int32 → Prop} (h : post (nI (qs_s (fun i => if rc i = 0 then 0 else 1) 60))) : ∀ d j n, j + d = 60 → d < n →
    wY_found_4 post kd ct ml uy rc cp n (nI (qs_s (fun i => if rc i = 0 then 0 else 1) j)) (nI j) := by
  intro d
  induction d with
  | zero =>
    intro j n hj hn
    have e : j = 60 := by omega
    subst e
    cases n with
    | zero => omega
    | succ n => exact br_t (by decide) h
  | succ d ih =>
    intro j n hj hn
    cases n with
    | zero => omega
    | succ n =>
      have a := ih (j + 1) n (by omega) (by omega)
      unfold wY_found_4
      refine br_f (nI_ge (b := 60) (by omega) (by decide)) ⟨vp_in_nI (by omega) (by decide), ?_⟩
      rw [qn_c (by omega), nI_1 j, nI_1]
      by_cases e : rc j = 0
      · rw [show qs_s (fun i => if rc i = 0 then 0 else 1) (j + 1) = qs_s (fun i => if rc i = 0 then 0 else 1) j by simp only [qs_s, if_pos e]; omega] at a
        exact br_t e (nm_e a)
      · rw [show qs_s (fun i => if rc i = 0 then 0 else 1) (j + 1) = qs_s (fun i => if rc i = 0 then 0 else 1) j + 1 by simp only [qs_s, if_neg e]] at a
        exact br_f e (nm_e (nm_e a))
theorem qy_found {post : Int32 → Prop} (h : post (nI (qs_s (fun i => if rc i = 0 then 0 else 1) 60))) : wpY_found post (kd, ct, ml, uy, rc, cp) :=
  Exists.intro 61 (qy_found_l h 60 0 61 rfl (by omega))
/-- unused -/
theorem qy_unused_l {p : Nat} (hp : p < 3) : ∀ d j, j + d = 20 → (∃ y, 20 * p + j ≤ y ∧ y < 20 * p + 20 ∧ uy y = 0) →
    ∃ y, 20 * p ≤ y ∧ y < 20 * p + 20 ∧ uy y = 0 ∧ ∀ post : Int32 → Prop, post (nI y) → ∀ n, d < n → wY_unused_5 post (nI p) kd ct ml uy rc cp n (nI (20 * p + j)) := by
  intro d
  induction d with
  | zero =>
    rintro j hj ⟨y, h1, h2, _⟩
    omega
  | succ d ih =>
    rintro j hj ⟨y, h1, h2, h3⟩
    have hge : ¬ nI (20 * p + 20) ≤ nI (20 * p + j) := nI_ge (by omega) (by omega)
    have hin : vp_in (nI (20 * p + j)) 60 := vp_in_nI (by omega) (by decide)
    by_cases e : uy (20 * p + j) = 0
    · refine ⟨20 * p + j, by omega, by omega, e, fun post h n hn => ?_⟩
      cases n with
      | zero => omega
      | succ n =>
        unfold wY_unused_5
        rw [qn_20p, qn_c (by omega)]
        exact br_f hge ⟨hin, br_t e h⟩
    · obtain ⟨z, a1, a2, a3, a4⟩ := ih (j + 1) (by omega) ⟨y, by
        rcases Nat.lt_or_ge (20 * p + j) y with w | w
        · omega
        · have e2 : y = 20 * p + j := by omega
          rw [e2] at h3
          exact absurd h3 e, h2, h3⟩
      refine ⟨z, a1, a2, a3, fun post h n hn => ?_⟩
      cases n with
      | zero => omega
      | succ n =>
        unfold wY_unused_5
        rw [qn_20p, qn_c (by omega), nI_1]
        exact br_f hge ⟨hin, br_f e (nm_e (a4 post h n (by omega)))⟩
theorem qy_unused {p : Nat} (hp : p < 3) (h : ∃ y, 20 * p ≤ y ∧ y < 20 * p + 20 ∧ uy y = 0) :
    ∃ y, 20 * p ≤ y ∧ y < 20 * p + 20 ∧ uy y = 0 ∧ ∀ post : Int32 → Prop, post (nI y) → wpY_unused post (kd, ct, ml, uy, rc, cp) (nI p) := by
  obtain ⟨y, a1, a2, a3, a4⟩ := qy_unused_l (kd := kd) (ct := ct) (ml := ml) (rc := rc) (cp := cp) hp 20 0 rfl h
  refine ⟨y, a1, a2, a3, fun post h => ?_⟩
  unfold wpY_unused
  dsimp only
  rw [qn_20]
  exact nm_e (Exists.intro 21 (a4 post h 21 (by omega)))
end
end
section
/-! the calls that write one register, and those that only read -/
theorem qh_Bn {k x : Int32} (h : ¬ k = 3) : qh_B k x := fun z => absurd z h
theorem qr_mk {k : Nat} {fl : Int32} {pk pv wt hf us hk hv tk tv fw ho li kd ct ml uy rc cp : Nat → Int32} (φ m h w : Nat → Nat) (hD : qr_D m h w wt hf us ml) (hC : qr_C (qr_L m h) φ w pk pv hk hv tk tv kd ct uy)
    (hF : ∀ c, c < 120 → fw c = -1) (hH : qh_N ho (qh_T (qr_L m h) pk pv hk hv tk tv)) : i_Rel k (fl, pk, pv, wt, hf, us, hk, hv, tk, tv, fw, ho, li) (kd, ct, ml, uy, rc, cp) :=
  Exists.intro φ (Exists.intro m (Exists.intro h (Exists.intro w ⟨hD, hC, hF, hH⟩)))
theorem qr_open {k : Nat} {fl : Int32} {pk pv wt hf us hk hv tk tv fw ho li kd ct ml uy rc cp : Nat → Int32} (I : i_Rel k (fl, pk, pv, wt, hf, us, hk, hv, tk, tv, fw, ho, li) (kd, ct, ml, uy, rc, cp)) :
    ∃ φ m h w : Nat → Nat, qr_D m h w wt hf us ml ∧ qr_C (qr_L m h) φ w pk pv hk hv tk tv kd ct uy ∧ (∀ c, c < 120 → fw c = -1) ∧ qh_N ho (qh_T (qr_L m h) pk pv hk hv tk tv) := I
theorem qr_TC1 {φ : Nat → Nat} {x : Int32} : qr_TC φ 1 x 1 x := ⟨rfl, fun z => absurd z (by decide), fun _ => rfl, fun _ => rfl⟩
theorem qr_TC3 {φ : Nat → Nat} {x : Int32} : qr_TC φ 3 x 3 x := ⟨rfl, fun z => absurd z (by decide), fun _ => rfl, fun _ => rfl⟩
theorem i_vc_number {k : Nat} {u : SX} {v : SY} (I : i_Rel k u v) (hk : k + 5 ≤ 2560) (v1 : Int32) (v2 : Int32) (v3 : Int32) : wpX_number (fun r u' => wpY_number (fun r' v' => r' = r ∧ i_Rel (k + 5) u' v') v v1 v2 v3) u v1 v2 v3 := by
  obtain ⟨fl, pk, pv, wt, hf, us, hK, hv, tk, tv, fw, ho, li⟩ := u
  obtain ⟨kd, ct, ml, uy, rc, cp⟩ := v
  rcases qb_fit v1 v2 with ⟨P, R, hP, hR, rfl, rfl⟩ | ⟨hX, hY⟩
  · obtain ⟨φ, m, h, w, hD, hC, hF, hH⟩ := qr_open I
    unfold wpX_number wpY_number
    dsimp only
    rw [qn_reg]
    refine qx_fit1 hP hR (br_f (by decide) (qx_assign (by omega) (qh_Bn (by decide)) (qr_TWB (hC.1 _ (by omega))) ?_))
    refine qy_bad0 hP hR (br_t rfl (qy_set (by omega) ⟨rfl, qr_mk φ m h w hD (qr_as hC (by omega) (qr_thr hP hR) (Or.inr (Or.inl rfl)) qr_TC1) hF
      (qh_as hH (by omega) (qh_Bn (by decide)) (qr_TWB (hC.1 _ (by omega))))⟩))
  · unfold wpX_number wpY_number
    dsimp only
    exact hX _ (br_t rfl (hY _ (br_f (by decide) ⟨rfl, I⟩)))
theorem i_vc_nil {k : Nat} {u : SX} {v : SY} (I : i_Rel k u v) (hk : k + 5 ≤ 2560) (v1 : Int32) (v2 : Int32) : wpX_nil (fun r u' => wpY_nil (fun r' v' => r' = r ∧ i_Rel (k + 5) u' v') v v1 v2) u v1 v2 := by
  obtain ⟨fl, pk, pv, wt, hf, us, hK, hv, tk, tv, fw, ho, li⟩ := u
  obtain ⟨kd, ct, ml, uy, rc, cp⟩ := v
  rcases qb_fit v1 v2 with ⟨P, R, hP, hR, rfl, rfl⟩ | ⟨hX, hY⟩
  · obtain ⟨φ, m, h, w, hD, hC, hF, hH⟩ := qr_open I
    unfold wpX_nil wpY_nil
    dsimp only
    rw [qn_reg]
    refine qx_fit1 hP hR (br_f (by decide) (qx_assign (by omega) (qh_Bn (by decide)) (qr_TWB (hC.1 _ (by omega))) ?_))
    refine qy_bad0 hP hR (br_t rfl (qy_set (by omega) ⟨rfl, qr_mk φ m h w hD (qr_as hC (by omega) (qr_thr hP hR) qr_TW00 qr_TC00) hF
      (qh_as hH (by omega) (qh_Bn (by decide)) (qr_TWB (hC.1 _ (by omega))))⟩))
  · unfold wpX_nil wpY_nil
    dsimp only
    exact hX _ (br_t rfl (hY _ (br_f (by decide) ⟨rfl, I⟩)))
theorem i_vc_move {k : Nat} {u : SX} {v : SY} (I : i_Rel k u v) (hk : k + 5 ≤ 2560) (v1 : Int32) (v2 : Int32) (v3 : Int32) : wpX_move (fun r u' => wpY_move (fun r' v' => r' = r ∧ i_Rel (k + 5) u' v') v v1 v2 v3) u v1 v2 v3 := by
  obtain ⟨fl, pk, pv, wt, hf, us, hK, hv, tk, tv, fw, ho, li⟩ := u
  obtain ⟨kd, ct, ml, uy, rc, cp⟩ := v
  rcases qb_fit v1 v2 with ⟨P, R, hP, hR, rfl, rfl⟩ | ⟨hX, hY⟩
  · rcases qb_fit (nI P) v3 with ⟨P', S, hP', hS, _, rfl⟩ | ⟨hX, hY⟩
    · obtain ⟨φ, m, h, w, hD, hC, hF, hH⟩ := qr_open I
      have hin : vp_in (nI (4 * P + S)) 21 := vp_in_nI (by omega) (by decide)
      have hw := hC.1 (4 * P + S) (by omega)
      have hc := hC.2.2.2.1 (4 * P + S) (by omega) (qr_thr hP hS)
      have ho1 := qr_owr hP hR
      have ho2 := qr_owr hP hS
      unfold wpX_move wpY_move
      dsimp only
      rw [qn_reg, qn_reg]
      refine qx_fit1 hP hR (br_f (by decide) (qx_fit1 hP hS (br_f (by decide) (nm_e ⟨hin, hin, ?_⟩))))
      rw [qn_c (by omega)]
      refine qx_assign (by omega) (qr_TWB hw) (qr_TWB (hC.1 _ (by omega))) ?_
      refine qy_bad0 hP hR (br_t rfl (qy_bad0 hP hS (br_t rfl (qy_take (by omega) (by omega) ⟨rfl, qr_mk φ m h w hD (qr_as hC (by omega) (qr_thr hP hR) ?_ hc) hF
        (qh_as hH (by omega) (qr_TWB hw) (qr_TWB (hC.1 _ (by omega))))⟩))))
      rw [ho1]
      rw [ho2] at hw
      exact hw
    · unfold wpX_move wpY_move
      dsimp only
      exact qx_fit1 hP hR (br_f (by decide) (hX _ (br_t rfl (qy_bad0 hP hR (br_t rfl (hY _ (br_f (by decide) ⟨rfl, I⟩)))))))
  · unfold wpX_move wpY_move
    dsimp only
    exact hX _ (br_t rfl (hY _ (br_f (by decide) ⟨rfl, I⟩)))
theorem i_vc_part {k : Nat} {u : SX} {v : SY} (I : i_Rel k u v) (hk : k + 5 ≤ 2560) (v1 : Int32) (v2 : Int32) (v3 : Int32) (v4 : Int32) : wpX_part (fun r u' => wpY_part (fun r' v' => r' = r ∧ i_Rel (k + 5) u' v') v v1 v2 v3 (lw_bz v4)) u v1 v2 v3 (lw_bz v4) := by
  obtain ⟨fl, pk, pv, wt, hf, us, hK, hv, tk, tv, fw, ho, li⟩ := u
  obtain ⟨kd, ct, ml, uy, rc, cp⟩ := v
  rcases qb_fit v1 v2 with ⟨P, R, hP, hR, rfl, rfl⟩ | ⟨hX, hY⟩
  · rcases qb_fit (nI P) v3 with ⟨P', S, hP', hS, _, rfl⟩ | ⟨hX, hY⟩
    · obtain ⟨φ, m, h, w, hD, hC, hF, hH⟩ := qr_open I
      have hin : vp_in (nI (4 * P + S)) 21 := vp_in_nI (by omega) (by decide)
      have hin2 : vp_in (nI (4 * P + S)) 141 := vp_in_nI (by omega) (by decide)
      have hn : (nI (4 * P + S)).toNatClampNeg = 4 * P + S := qn_c (by omega)
      have hw := hC.1 (4 * P + S) (by omega)
      have hc := hC.2.2.2.1 (4 * P + S) (by omega) (qr_thr hP hS)
      have ho1 := qr_owr hP hR
      have ho2 := qr_owr hP hS
      unfold wpX_part wpY_part
      dsimp only
      rw [qn_reg, qn_reg, hn]
      refine qx_fit1 hP hR (br_f (by decide) (qx_fit1 hP hS (br_f (by decide) (nm_e ⟨hin, ?_⟩))))
      rw [hn]
      by_cases e : pk (4 * P + S) = 2
      · obtain ⟨d, hd, hdp, ed⟩ := qr_TW2 hw e
        obtain ⟨hd120, w1, w2⟩ := hC.2.1 d hd
        obtain ⟨c1, c2⟩ := hC.2.2.2.2.1 d hd
        obtain ⟨f1, f2, f3⟩ := hC.2.2.2.2.2.1 d hd
        have hid : vp_in (nI d) 120 := vp_in_nI hd120 (by decide)
        have hnd : (nI d).toNatClampNeg = d := qn_c (by omega)
        have ek : kd (4 * P + S) = 2 := hc.1.trans e
        have ey : ct (4 * P + S) = nI (φ d) := by
          have := hc.2.1 e
          rw [ed, hnd] at this
          exact this
        rw [ho2] at hdp
        rw [hdp, ← ho1] at w1 w2
        rw [ed]
        refine br_t e ⟨hin, nm_e ?_⟩
        rcases lw_bz_01 v4 with z | z
        · rw [z, hnd]
          refine br_t rfl ⟨hid, hid, qx_assign (by omega) (qr_TWB w2) (qr_TWB (hC.1 _ (by omega))) ?_⟩
          refine qy_bad0 hP hR (br_t rfl (qy_bad0 hP hS (br_t rfl ⟨hin2, br_t ek ⟨hin2, nm_r ey (br_t rfl ?_)⟩⟩)))
          unfold wY_part_75
          rw [qn_22]
          exact qy_take (by omega) (by omega) ⟨rfl, qr_mk φ m h w hD (qr_as hC (by omega) (qr_thr hP hR) w2 c2) hF (qh_as hH (by omega) (qr_TWB w2) (qr_TWB (hC.1 _ (by omega))))⟩
        · rw [z, hnd]
          refine br_f (by decide) ⟨hid, hid, qx_assign (by omega) (qr_TWB w1) (qr_TWB (hC.1 _ (by omega))) ?_⟩
          refine qy_bad0 hP hR (br_t rfl (qy_bad0 hP hS (br_t rfl ⟨hin2, br_t ek ⟨hin2, nm_r ey (br_f (by decide) ?_)⟩⟩)))
          unfold wY_part_75
          rw [qn_21]
          exact qy_take (by omega) (by omega) ⟨rfl, qr_mk φ m h w hD (qr_as hC (by omega) (qr_thr hP hR) w1 c1) hF (qh_as hH (by omega) (qr_TWB w1) (qr_TWB (hC.1 _ (by omega))))⟩
      · have ek : ¬ kd (4 * P + S) = 2 := fun z => e (hc.1.symm.trans z)
        exact br_f e (qy_bad0 hP hR (br_t rfl (qy_bad0 hP hS (br_t rfl ⟨hin2, br_f ek ⟨rfl, I⟩⟩))))
    · unfold wpX_part wpY_part
      dsimp only
      exact qx_fit1 hP hR (br_f (by decide) (hX _ (br_t rfl (qy_bad0 hP hR (br_t rfl (hY _ (br_f (by decide) ⟨rfl, I⟩)))))))
  · unfold wpX_part wpY_part
    dsimp only
    exact hX _ (br_t rfl (hY _ (br_f (by decide) ⟨rfl, I⟩)))
theorem i_vc_kind {k : Nat} {u : SX} {v : SY} (I : i_Rel k u v) (hk : k + 5 ≤ 2560) (v1 : Int32) (v2 : Int32) : wpX_kind (fun r => wpY_kind (fun r' => r' = r ∧ i_Rel (k + 5) u v) v v1 v2) u v1 v2 := by
  obtain ⟨fl, pk, pv, wt, hf, us, hK, hv, tk, tv, fw, ho, li⟩ := u
  obtain ⟨kd, ct, ml, uy, rc, cp⟩ := v
  rcases qb_fit v1 v2 with ⟨P, R, hP, hR, rfl, rfl⟩ | ⟨hX, hY⟩
  · obtain ⟨φ, m, h, w, hD, hC, hF, hH⟩ := qr_open I
    have hc := hC.2.2.2.1 (4 * P + R) (by omega) (qr_thr hP hR)
    unfold wpX_kind wpY_kind
    dsimp only
    rw [qn_reg, qn_c (by omega)]
    exact qx_fit1 hP hR (br_f (by decide) ⟨vp_in_nI (by omega) (by decide), qy_bad0 hP hR (br_t rfl ⟨vp_in_nI (by omega) (by decide), hc.1, I⟩)⟩)
  · unfold wpX_kind wpY_kind
    dsimp only
    exact hX _ (br_t rfl (hY _ (br_f (by decide) ⟨rfl, I⟩)))
theorem i_vc_value {k : Nat} {u : SX} {v : SY} (I : i_Rel k u v) (hk : k + 5 ≤ 2560) (v1 : Int32) (v2 : Int32) : wpX_value (fun r => wpY_value (fun r' => r' = r ∧ i_Rel (k + 5) u v) v v1 v2) u v1 v2 := by
  obtain ⟨fl, pk, pv, wt, hf, us, hK, hv, tk, tv, fw, ho, li⟩ := u
  obtain ⟨kd, ct, ml, uy, rc, cp⟩ := v
  rcases qb_fit v1 v2 with ⟨P, R, hP, hR, rfl, rfl⟩ | ⟨hX, hY⟩
  · obtain ⟨φ, m, h, w, hD, hC, hF, hH⟩ := qr_open I
    have hin : vp_in (nI (4 * P + R)) 21 := vp_in_nI (by omega) (by decide)
    have hin2 : vp_in (nI (4 * P + R)) 141 := vp_in_nI (by omega) (by decide)
    have hn : (nI (4 * P + R)).toNatClampNeg = 4 * P + R := qn_c (by omega)
    have hw := hC.1 (4 * P + R) (by omega)
    obtain ⟨c0, c2, c1, c3⟩ := hC.2.2.2.1 (4 * P + R) (by omega) (qr_thr hP hR)
    unfold wpX_value wpY_value wY_value_31
    dsimp only
    rw [qn_reg, hn, c0]
    refine qx_fit1 hP hR (br_f (by decide) (nm_e ⟨hin, ?_⟩))
    rw [hn]
    rcases hw with ⟨z, z'⟩ | z | ⟨z, _⟩ | ⟨z, _⟩
    · rw [z, z']
      exact br_f (by decide) ⟨hin, qy_bad0 hP hR (br_t rfl ⟨hin2, nm_e (br_f (by decide) (br_f (by decide) ⟨rfl, I⟩))⟩)⟩
    · have e := c1 z
      rw [z]
      exact br_f (by decide) ⟨hin, qy_bad0 hP hR (br_t rfl ⟨hin2, nm_e (br_t rfl ⟨hin2, e, I⟩)⟩)⟩
    · rw [z]
      exact br_t rfl (qy_bad0 hP hR (br_t rfl ⟨hin2, nm_e (br_f (by decide) (br_f (by decide) ⟨rfl, I⟩))⟩))
    · have e := c3 z
      rw [z]
      exact br_f (by decide) ⟨hin, qy_bad0 hP hR (br_t rfl ⟨hin2, nm_e (br_f (by decide) (br_t rfl ⟨hin2, e, I⟩))⟩)⟩
  · unfold wpX_value wpY_value
    dsimp only
    exact hX _ (br_t rfl (hY _ (br_f (by decide) ⟨rfl, I⟩)))
/-- equal terms -/
theorem qr_same {L : Nat → Bool} {φ : Nat → Nat} {uy : Nat → Int32} {p : Nat} {k x1 x2 k1 k2 y1 y2 : Int32} (hF : qr_F L φ uy) (hL : ∀ c, L c = true → c < 120) (w1 : qr_TW L p k x1) (w2 : qr_TW L p k x2)
    (c1 : qr_TC φ k x1 k1 y1) (c2 : qr_TC φ k x2 k2 y2) : x1 = x2 ↔ (k = 0 ∨ y1 = y2) := by
  obtain ⟨_, a2, a1, a3⟩ := c1
  obtain ⟨_, b2, b1, b3⟩ := c2
  by_cases e0 : k = 0
  · rw [qr_TW0 w1 e0, qr_TW0 w2 e0]
    exact ⟨fun _ => Or.inl e0, fun _ => rfl⟩
  by_cases e1 : k = 1
  · rw [a1 e1, b1 e1]
    exact ⟨Or.inr, fun z => z.elim (fun z => absurd z e0) id⟩
  by_cases e3 : k = 3
  · rw [a3 e3, b3 e3]
    exact ⟨Or.inr, fun z => z.elim (fun z => absurd z e0) id⟩
  by_cases e2 : k = 2
  · obtain ⟨d1, l1, _, rfl⟩ := qr_TW2 w1 e2
    obtain ⟨d2, l2, _, rfl⟩ := qr_TW2 w2 e2
    have t1 := hL d1 l1
    have t2 := hL d2 l2
    rw [a2 e2, b2 e2, qn_c (by omega), qn_c (by omega)]
    constructor
    · intro z
      rw [qn_inj (by omega) (by omega) z]
      exact Or.inr rfl
    · rintro (z | z)
      · exact absurd z e0
      · have f1 := hF.1 d1 l1
        have f2 := hF.1 d2 l2
        rw [hF.2.1 d1 d2 l1 l2 (qn_inj (by omega) (by omega) z)]
  · rcases w1 with ⟨z, _⟩ | z | ⟨z, _⟩ | ⟨z, _⟩
    · exact absurd z e0
    · exact absurd z e1
    · exact absurd z e2
    · exact absurd z e3
theorem i_vc_same {k : Nat} {u : SX} {v : SY} (I : i_Rel k u v) (hk : k + 5 ≤ 2560) (v1 : Int32) (v2 : Int32) (v3 : Int32) : wpX_same (fun r => wpY_same (fun r' => r' = r ∧ i_Rel (k + 5) u v) v v1 v2 v3) u v1 v2 v3 := by
  obtain ⟨fl, pk, pv, wt, hf, us, hK, hv, tk, tv, fw, ho, li⟩ := u
  obtain ⟨kd, ct, ml, uy, rc, cp⟩ := v
  rcases qb_fit v1 v2 with ⟨P, R, hP, hR, rfl, rfl⟩ | ⟨hX, hY⟩
  · rcases qb_fit (nI P) v3 with ⟨P', S, hP', hS, _, rfl⟩ | ⟨hX, hY⟩
    · obtain ⟨φ, m, h, w, hD, hC, hF, hH⟩ := qr_open I
      have hin : vp_in (nI (4 * P + S)) 21 := vp_in_nI (by omega) (by decide)
      have hin2 : vp_in (nI (4 * P + S)) 141 := vp_in_nI (by omega) (by decide)
      have jin : vp_in (nI (4 * P + R)) 21 := vp_in_nI (by omega) (by decide)
      have jin2 : vp_in (nI (4 * P + R)) 141 := vp_in_nI (by omega) (by decide)
      have hn : (nI (4 * P + S)).toNatClampNeg = 4 * P + S := qn_c (by omega)
      have jn : (nI (4 * P + R)).toNatClampNeg = 4 * P + R := qn_c (by omega)
      have hw := hC.1 (4 * P + S) (by omega)
      have hc := hC.2.2.2.1 (4 * P + S) (by omega) (qr_thr hP hS)
      have jw := hC.1 (4 * P + R) (by omega)
      have jc := hC.2.2.2.1 (4 * P + R) (by omega) (qr_thr hP hR)
      rw [qr_owr hP hS] at hw
      rw [qr_owr hP hR] at jw
      unfold wpX_same wpY_same
      dsimp only
      rw [qn_reg, qn_reg]
      refine qx_fit1 hP hR (br_f (by decide) (qx_fit1 hP hS (br_f (by decide) (nm_e (nm_e ⟨jin, hin, ?_⟩)))))
      rw [hn, jn]
      by_cases e : pk (4 * P + R) = pk (4 * P + S)
      · have ek : kd (4 * P + R) = kd (4 * P + S) := jc.1.trans (e.trans hc.1.symm)
        rw [← e] at hw hc
        have key := qr_same hC.2.2.2.2.2 (fun c hc => (hC.2.1 c hc).1) jw hw jc hc
        refine br_t e ⟨jin, hin, ?_⟩
        by_cases e2 : pv (4 * P + R) = pv (4 * P + S)
        · refine br_t e2 (qy_bad0 hP hR (br_t rfl (qy_bad0 hP hS (br_t rfl (nm_e (nm_e ⟨jin2, hin2, ?_⟩))))))
          rw [hn, jn]
          refine br_t ek ⟨jin2, ?_⟩
          by_cases e0 : pk (4 * P + R) = 0
          · exact br_t (jc.1.trans e0) ⟨rfl, I⟩
          · refine br_f (fun z => e0 (jc.1.symm.trans z)) ⟨jin2, hin2, ?_⟩
            rcases key.mp e2 with z | z
            · exact absurd z e0
            · exact br_t z ⟨rfl, I⟩
        · refine br_f e2 (qy_bad0 hP hR (br_t rfl (qy_bad0 hP hS (br_t rfl (nm_e (nm_e ⟨jin2, hin2, ?_⟩))))))
          rw [hn, jn]
          refine br_t ek ⟨jin2, ?_⟩
          exact br_f (fun z => e2 (key.mpr (Or.inl (jc.1.symm.trans z)))) ⟨jin2, hin2, br_f (fun z => e2 (key.mpr (Or.inr z))) ⟨rfl, I⟩⟩
      · have ek : ¬ kd (4 * P + R) = kd (4 * P + S) := fun z => e (jc.1.symm.trans (z.trans hc.1))
        refine br_f e (qy_bad0 hP hR (br_t rfl (qy_bad0 hP hS (br_t rfl (nm_e (nm_e ⟨jin2, hin2, ?_⟩))))))
        rw [hn, jn]
        exact br_f ek ⟨rfl, I⟩
    · unfold wpX_same wpY_same
      dsimp only
      exact qx_fit1 hP hR (br_f (by decide) (hX _ (br_t rfl (qy_bad0 hP hR (br_t rfl (hY _ (br_f (by decide) ⟨rfl, I⟩)))))))
  · unfold wpX_same wpY_same
    dsimp only
    exact hX _ (br_t rfl (hY _ (br_f (by decide) ⟨rfl, I⟩)))
/-- the two counts of a process's pairs -/
theorem qr_cnt {φ m h w : Nat → Nat} {wt hf us ml uy : Nat → Int32} {p : Nat} (hD : qr_D m h w wt hf us ml) (hF : qr_F (qr_L m h) φ uy) (hp : p < 3) :
    qs_s (fun i => if uy (20 * p + i) = 0 then 0 else 1) 20 = m p := by
  obtain ⟨d1, d2, _⟩ := hD p hp
  have hl : ∀ i, i < m p → qr_L m h (40 * p + 20 * h p + i) = true ∧ (40 * p + 20 * h p + i) / 40 = p := fun i hi => qr_Lm hp d1 d2 (by omega) (by omega)
  refine qs_bij (m p) _ (fun i => φ (40 * p + 20 * h p + i) - 20 * p) (fun i hi => ?_) (fun i j hi hj e => ?_) (fun y hy => ?_)
  · obtain ⟨a, b⟩ := hl i hi
    obtain ⟨f1, f2, f3⟩ := hF.1 _ a
    refine ⟨by show φ (40 * p + 20 * h p + i) - 20 * p < 20; omega, ?_⟩
    show (if uy (20 * p + (φ (40 * p + 20 * h p + i) - 20 * p)) = 0 then 0 else 1) = 1
    rw [show 20 * p + (φ (40 * p + 20 * h p + i) - 20 * p) = φ (40 * p + 20 * h p + i) by omega, f3]
    rfl
  · obtain ⟨a, b⟩ := hl i hi
    obtain ⟨a', b'⟩ := hl j hj
    obtain ⟨f1, f2, f3⟩ := hF.1 _ a
    obtain ⟨g1, g2, g3⟩ := hF.1 _ a'
    have e' : φ (40 * p + 20 * h p + i) - 20 * p = φ (40 * p + 20 * h p + j) - 20 * p := e
    have := hF.2.1 _ _ a a' (by omega)
    omega
  · show (if uy (20 * p + y) = 0 then 0 else 1) = 0 ∨ ((if uy (20 * p + y) = 0 then 0 else 1) = 1 ∧ _)
    rcases hF.2.2 (20 * p + y) (by omega) with z | ⟨z, c, hc, ec⟩
    · exact Or.inl (if_pos z)
    · refine Or.inr ⟨by rw [z]; rfl, ?_⟩
      obtain ⟨f1, f2, f3⟩ := hF.1 c hc
      have hq : c / 40 = p := by omega
      have q := qr_Li.mp hc
      rw [hq] at q
      refine ⟨c - (40 * p + 20 * h p), by omega, ?_⟩
      show φ (40 * p + 20 * h p + (c - (40 * p + 20 * h p))) - 20 * p = y
      rw [show 40 * p + 20 * h p + (c - (40 * p + 20 * h p)) = c by omega]
      omega
theorem i_vc_pairs {k : Nat} {u : SX} {v : SY} (I : i_Rel k u v) (hk : k + 5 ≤ 2560) (v1 : Int32) : wpX_pairs (fun r => wpY_pairs (fun r' => r' = r ∧ i_Rel (k + 5) u v) v v1) u v1 := by
  obtain ⟨fl, pk, pv, wt, hf, us, hK, hv, tk, tv, fw, ho, li⟩ := u
  obtain ⟨kd, ct, ml, uy, rc, cp⟩ := v
  rcases qb_fit v1 0 with ⟨P, R, hP, hR, rfl, hz⟩ | ⟨hX, hY⟩
  · obtain ⟨φ, m, h, w, hD, hC, hF, hH⟩ := qr_open I
    obtain ⟨d1, d2, d3, d4, d5, d6, d7⟩ := hD P hP
    unfold wpX_pairs wpY_pairs
    dsimp only
    rw [qn_c (by omega)]
    refine qx_fit1 (R := 0) hP (by decide) (br_f (by decide) ⟨vp_in_nI hP (by decide), ?_⟩)
    refine qy_bad0 (R := 0) hP (by decide) (br_t rfl (qy_count hP ⟨?_, I⟩))
    rw [qr_cnt hD hC.2.2.2.2.2 hP, d7]
  · unfold wpX_pairs wpY_pairs
    dsimp only
    exact hX _ (br_t rfl (hY _ (br_f (by decide) ⟨rfl, I⟩)))
end
section
/-! blobs -/
theorem qr_hw {m h w : Nat → Nat} {wt hf us ml : Nat → Int32} (hD : qr_D m h w wt hf us ml) : ∀ p, p < 3 → w p ≤ 3 ∧ ml p = nI (w p) := fun p hp => by
  obtain ⟨d1, d2, d3, d4, d5, d6, d7⟩ := hD p hp
  exact ⟨d3, d5⟩
theorem qr_hu {L : Nat → Bool} {φ : Nat → Nat} {uy : Nat → Int32} (hF : qr_F L φ uy) : ∀ y, y < 60 → uy y = 0 ∨ uy y = 1 := fun y hy => by
  rcases hF.2.2 y hy with z | ⟨z, _⟩
  · exact Or.inl z
  · exact Or.inr z
theorem qr_cell {φ : Nat → Nat} {c q : Nat} (h : (q - 21) / 2 = φ c) (h2 : 21 ≤ q) : q = 21 + 2 * φ c ∨ q = 22 + 2 * φ c := by omega
/-- Y holds a blob at another place than x2 if X's places, but for that one, and pairs do -/
theorem qr_held {L : Nat → Bool} {φ w : Nat → Nat} {pk pv pk' pv' hk hv tk tv kd ct uy : Nat → Int32} {x2 : Int32} {i : Nat} (hC : qr_C L φ w pk pv hk hv tk tv kd ct uy)
    (h1 : ∀ q, q < 21 → ((pk' q = 3 ∧ pv' q = nI i) ↔ (¬ nI q = x2 ∧ pk q = 3 ∧ pv q = nI i))) (h2 : ∀ q, 21 ≤ q → q < 141 → ¬ nI q = x2) :
    qy_H w uy kd ct (nI i) x2 0 ↔ 0 < qh_T L pk' pv' hk hv tk tv i := by
  obtain ⟨hXP, hXC, hXN, hYP, hYC, hF⟩ := hC
  constructor
  · rintro ⟨q, _, hq, hne, hk3, hct, ht⟩
    unfold qh_T
    rcases ht with a | ⟨a1, a2, a3⟩ | ⟨a1, a2⟩
    · obtain ⟨c0, _, _, c3⟩ := hYP q (by omega) (Or.inl a)
      have e : pk q = 3 := c0.symm.trans hk3
      have := (qs_pos (f := fun j => qh_e (pk' j) (pv' j) i)).mpr ⟨q, show q < 21 by omega, qh_epos.mpr ((h1 q (by omega)).mpr ⟨hne, e, (c3 e).symm.trans hct⟩)⟩
      omega
    · obtain ⟨c0, _, _, c3⟩ := hYP q (by omega) (Or.inr a3)
      have e : pk q = 3 := c0.symm.trans hk3
      have := (qs_pos (f := fun j => qh_e (pk' j) (pv' j) i)).mpr ⟨q, show q < 21 by omega, qh_epos.mpr ((h1 q (by omega)).mpr ⟨hne, e, (c3 e).symm.trans hct⟩)⟩
      omega
    · rcases hF.2.2 ((q - 21) / 2) (by omega) with z | ⟨_, c, hc, ec⟩
      · rw [z] at a2
        exact absurd a2 (by decide)
      · obtain ⟨⟨c0, _, _, c3⟩, ⟨e0, _, _, e3⟩⟩ := hYC c hc
        have key : 0 < qh_f L hk hv tk tv i c := by
          rw [qh_f1 hc]
          rcases qr_cell ec.symm a1 with e | e
          · rw [e] at hk3 hct
            have e' : hk c = 3 := c0.symm.trans hk3
            have := qh_epos.mpr ⟨e', (c3 e').symm.trans hct⟩
            omega
          · rw [e] at hk3 hct
            have e' : tk c = 3 := e0.symm.trans hk3
            have := qh_epos.mpr ⟨e', (e3 e').symm.trans hct⟩
            omega
        have := qs_pos.mpr ⟨c, (hXC c hc).1, key⟩
        omega
  · intro h
    unfold qh_T at h
    rcases Nat.eq_zero_or_pos (qs_s (fun j => qh_e (pk' j) (pv' j) i) 21) with z | z
    · obtain ⟨c, _, hp⟩ := qs_pos.mp (show 0 < qs_s (qh_f L hk hv tk tv i) 120 by omega)
      cases hc : L c with
      | false =>
        rw [qh_f0 hc] at hp
        omega
      | true =>
        rw [qh_f1 hc] at hp
        obtain ⟨⟨c0, _, _, c3⟩, ⟨e0, _, _, e3⟩⟩ := hYC c hc
        obtain ⟨f1, _, f3⟩ := hF.1 c hc
        rcases Nat.eq_zero_or_pos (qh_e (hk c) (hv c) i) with y | y
        · obtain ⟨k3, v3⟩ := qh_epos.mp (show 0 < qh_e (tk c) (tv c) i by omega)
          refine ⟨22 + 2 * φ c, by omega, by omega, h2 _ (by omega) (by omega), e0.trans k3, (e3 k3).trans v3, Or.inr (Or.inr ⟨by omega, ?_⟩)⟩
          rw [show (22 + 2 * φ c - 21) / 2 = φ c by omega]
          exact f3
        · obtain ⟨k3, v3⟩ := qh_epos.mp y
          refine ⟨21 + 2 * φ c, by omega, by omega, h2 _ (by omega) (by omega), c0.trans k3, (c3 k3).trans v3, Or.inr (Or.inr ⟨by omega, ?_⟩)⟩
          rw [show (21 + 2 * φ c - 21) / 2 = φ c by omega]
          exact f3
    · obtain ⟨q, hq, hp⟩ := qs_pos.mp z
      obtain ⟨hne, k3, v3⟩ := (h1 q hq).mp (qh_epos.mp hp)
      by_cases ht : qr_th w q
      · obtain ⟨c0, _, _, c3⟩ := hYP q hq ht
        refine ⟨q, by omega, by omega, hne, c0.trans k3, (c3 k3).trans v3, ?_⟩
        rcases ht with a | a
        · exact Or.inl a
        · by_cases b : q < 12
          · exact Or.inl b
          · exact Or.inr (Or.inl ⟨by omega, hq, a⟩)
      · obtain ⟨z0, _⟩ := hXN q hq ht
        exact absurd (z0.symm.trans k3) (by decide)
section
variable {kd ct ml uy rc cp : Nat → Int32}
theorem qy_blobs_l {post : Int32 → Prop} {w T : Nat → Nat} (hw : ∀ p, p < 3 → w p ≤ 3 ∧ ml p = nI (w p)) (hu : ∀ y, y < 60 → uy y = 0 ∨ uy y = 1)
    (hT : ∀ i, i < 6 → (qy_H w uy kd ct (nI i) (-1) 0 ↔ 0 < T i)) (h : post (nI (qs_s (fun i => if T i = 0 then 0 else 1) 6))) : ∀ d j n, j + d = 6 → d < n →
    wY_blobs_4 post kd ct ml uy rc cp n (nI (qs_s (fun i => if T i = 0 then 0 else 1) j)) (nI j) := by
  intro d
  induction d with
  | zero =>
    intro j n hj hn
    have e : j = 6 := by omega
    subst e
    cases n with
    | zero => omega
    | succ n => exact br_t (by decide) h
  | succ d ih =>
    intro j n hj hn
    cases n with
    | zero => omega
    | succ n =>
      have a := ih (j + 1) n (by omega) (by omega)
      have t := hT j (by omega)
      unfold wY_blobs_4
      refine br_f (nI_ge (b := 6) (by omega) (by decide)) ?_
      rw [nI_1 j, nI_1]
      obtain ⟨r, hr, hW⟩ := qy_held (kd := kd) (ct := ct) (rc := rc) (cp := cp) (x1 := nI j) (x2 := -1) hw hu
      refine hW _ ?_
      by_cases e : T j = 0
      · rw [show qs_s (fun i => if T i = 0 then 0 else 1) (j + 1) = qs_s (fun i => if T i = 0 then 0 else 1) j by simp only [qs_s, if_pos e]; omega] at a
        rcases hr with ⟨_, b⟩ | ⟨b, _⟩
        · have := t.mp b
          omega
        · exact br_t b (nm_e a)
      · rw [show qs_s (fun i => if T i = 0 then 0 else 1) (j + 1) = qs_s (fun i => if T i = 0 then 0 else 1) j + 1 by simp only [qs_s, if_neg e]] at a
        rcases hr with ⟨b, _⟩ | ⟨_, b⟩
        · rw [b]
          exact br_f (by decide) (nm_e (nm_e a))
        · exact absurd (t.mpr (by omega)) b
/-- blob: the first id that no other place holds -/
theorem qy_blob_s {post : Int32 → SY → Prop} {w T : Nat → Nat} {P R i : Nat} (hP : P < 3) (hR : R < 4) (hw : ∀ p, p < 3 → w p ≤ 3 ∧ ml p = nI (w p)) (hu : ∀ y, y < 60 → uy y = 0 ∨ uy y = 1)
    (hT : ∀ i, i < 6 → (qy_H w uy kd ct (nI i) (nI (4 * P + R)) 0 ↔ 0 < T i)) (hi : i < 6) (h0 : T i = 0) (hl : ∀ j, j < i → ¬ T j = 0)
    (h : post (nI i) (upd kd (4 * P + R) 3, upd ct (4 * P + R) (nI i), ml, uy, rc, cp)) : ∀ d j n, j + d = i → d < n →
    wY_blob_12 post (nI P) (nI R) kd ct ml uy rc cp n (nI j) := by
  intro d
  induction d with
  | zero =>
    intro j n hj hn
    have e : j = i := by omega
    subst e
    cases n with
    | zero => omega
    | succ n =>
      have t := hT j (by omega)
      unfold wY_blob_12
      rw [qn_reg]
      refine br_f (nI_ge (b := 6) (by omega) (by decide)) ?_
      obtain ⟨r, hr, hW⟩ := qy_held (kd := kd) (ct := ct) (rc := rc) (cp := cp) (x1 := nI j) (x2 := nI (4 * P + R)) hw hu
      refine hW _ ?_
      rcases hr with ⟨_, b⟩ | ⟨b, _⟩
      · have := t.mp b
        omega
      · exact br_t b (qy_set (by omega) h)
  | succ d ih =>
    intro j n hj hn
    cases n with
    | zero => omega
    | succ n =>
      have a := ih (j + 1) n (by omega) (by omega)
      have t := hT j (by omega)
      have l := hl j (by omega)
      unfold wY_blob_12
      rw [qn_reg, nI_1]
      refine br_f (nI_ge (b := 6) (by omega) (by decide)) ?_
      obtain ⟨r, hr, hW⟩ := qy_held (kd := kd) (ct := ct) (rc := rc) (cp := cp) (x1 := nI j) (x2 := nI (4 * P + R)) hw hu
      refine hW _ ?_
      rcases hr with ⟨b, _⟩ | ⟨_, b⟩
      · rw [b]
        exact br_f (by decide) (nm_e a)
      · exact absurd (t.mpr (by omega)) b
theorem qy_blob_n {post : Int32 → SY → Prop} {w T : Nat → Nat} {P R : Nat} (hP : P < 3) (hR : R < 4) (hw : ∀ p, p < 3 → w p ≤ 3 ∧ ml p = nI (w p)) (hu : ∀ y, y < 60 → uy y = 0 ∨ uy y = 1)
    (hT : ∀ i, i < 6 → (qy_H w uy kd ct (nI i) (nI (4 * P + R)) 0 ↔ 0 < T i)) (hl : ∀ j, j < 6 → ¬ T j = 0)
    (h : post (-2) (kd, ct, ml, uy, rc, cp)) : ∀ d j n, j + d = 6 → d < n →
    wY_blob_12 post (nI P) (nI R) kd ct ml uy rc cp n (nI j) := by
  intro d
  induction d with
  | zero =>
    intro j n hj hn
    have e : j = 6 := by omega
    subst e
    cases n with
    | zero => omega
    | succ n => exact br_t (by decide) h
  | succ d ih =>
    intro j n hj hn
    cases n with
    | zero => omega
    | succ n =>
      have a := ih (j + 1) n (by omega) (by omega)
      have t := hT j (by omega)
      have l := hl j (by omega)
      unfold wY_blob_12
      rw [qn_reg, nI_1]
      refine br_f (nI_ge (b := 6) (by omega) (by decide)) ?_
      obtain ⟨r, hr, hW⟩ := qy_held (kd := kd) (ct := ct) (rc := rc) (cp := cp) (x1 := nI j) (x2 := nI (4 * P + R)) hw hu
      refine hW _ ?_
      rcases hr with ⟨b, _⟩ | ⟨_, b⟩
      · rw [b]
        exact br_f (by decide) (nm_e a)
      · exact absurd (t.mpr (by omega)) b
end
theorem qh_NT {ho : Nat → Int32} {L : Nat → Bool} {pk pv hk hv tk tv : Nat → Int32} (h : qh_N ho (qh_T L pk pv hk hv tk tv)) : ∀ i, i < 6 → ho i = nI (qh_T L pk pv hk hv tk tv i) ∧ qh_T L pk pv hk hv tk tv i < 1000 :=
  fun i hi => ⟨h i hi, by have := qh_Tle (L := L) (pk := pk) (pv := pv) (hk := hk) (hv := hv) (tk := tk) (tv := tv) (i := i); omega⟩
theorem qn_big {q : Nat} (h : q < 141) : ¬ nI q = -1 := qn_neg (by omega)
theorem i_vc_blobs {k : Nat} {u : SX} {v : SY} (I : i_Rel k u v) (hk : k + 5 ≤ 2560) : wpX_blobs (fun r => wpY_blobs (fun r' => r' = r ∧ i_Rel (k + 5) u v) v) u := by
  obtain ⟨fl, pk, pv, wt, hf, us, hK, hv, tk, tv, fw, ho, li⟩ := u
  obtain ⟨kd, ct, ml, uy, rc, cp⟩ := v
  obtain ⟨φ, m, h, w, hD, hC, hF, hH⟩ := qr_open I
  unfold wpX_blobs
  dsimp only
  refine qx_kept (qh_NT hH) ?_
  refine Exists.intro 7 (qy_blobs_l (w := w) (qr_hw hD) (qr_hu hC.2.2.2.2.2) (fun i hi => qr_held hC (fun q hq => ?_) (fun q _ hq => qn_big hq)) ⟨rfl, I⟩ 6 0 7 rfl (by omega))
  exact ⟨fun z => ⟨qn_big (by omega), z⟩, fun z => z.2⟩
/-- the least of six that is zero, or none -/
theorem qs_least (T : Nat → Nat) : (∃ i, i < 6 ∧ T i = 0 ∧ (∀ j, j < i → ¬ T j = 0) ∧ qs_s (fun i => if T i = 0 then 0 else 1) 6 < 6) ∨ ((∀ j, j < 6 → ¬ T j = 0) ∧ qs_s (fun i => if T i = 0 then 0 else 1) 6 = 6) := by
  simp only [qs_s]
  by_cases h0 : T 0 = 0
  · refine Or.inl ⟨0, by omega, h0, fun j hj => by omega, ?_⟩
    rw [if_pos h0]
    have : ∀ i, (if T i = 0 then 0 else 1) ≤ 1 := fun i => by split <;> omega
    have a1 := this 1
    have a2 := this 2
    have a3 := this 3
    have a4 := this 4
    have a5 := this 5
    omega
  by_cases h1 : T 1 = 0
  · refine Or.inl ⟨1, by omega, h1, fun j hj => ?_, ?_⟩
    · obtain rfl : j = 0 := by omega
      exact h0
    · rw [if_pos h1]
      have : ∀ i, (if T i = 0 then 0 else 1) ≤ 1 := fun i => by split <;> omega
      have a1 := this 0
      have a2 := this 2
      have a3 := this 3
      have a4 := this 4
      have a5 := this 5
      omega
  by_cases h2 : T 2 = 0
  · refine Or.inl ⟨2, by omega, h2, fun j hj => ?_, ?_⟩
    · rcases (show j = 0 ∨ j = 1 by omega) with rfl | rfl
      · exact h0
      · exact h1
    · rw [if_pos h2]
      have : ∀ i, (if T i = 0 then 0 else 1) ≤ 1 := fun i => by split <;> omega
      have a1 := this 0
      have a2 := this 1
      have a3 := this 3
      have a4 := this 4
      have a5 := this 5
      omega
  by_cases h3 : T 3 = 0
  · refine Or.inl ⟨3, by omega, h3, fun j hj => ?_, ?_⟩
    · rcases (show j = 0 ∨ j = 1 ∨ j = 2 by omega) with rfl | rfl | rfl
      · exact h0
      · exact h1
      · exact h2
    · rw [if_pos h3]
      have : ∀ i, (if T i = 0 then 0 else 1) ≤ 1 := fun i => by split <;> omega
      have a1 := this 0
      have a2 := this 1
      have a3 := this 2
      have a4 := this 4
      have a5 := this 5
      omega
  by_cases h4 : T 4 = 0
  · refine Or.inl ⟨4, by omega, h4, fun j hj => ?_, ?_⟩
    · rcases (show j = 0 ∨ j = 1 ∨ j = 2 ∨ j = 3 by omega) with rfl | rfl | rfl | rfl
      · exact h0
      · exact h1
      · exact h2
      · exact h3
    · rw [if_pos h4]
      have : ∀ i, (if T i = 0 then 0 else 1) ≤ 1 := fun i => by split <;> omega
      have a1 := this 0
      have a2 := this 1
      have a3 := this 2
      have a4 := this 3
      have a5 := this 5
      omega
  by_cases h5 : T 5 = 0
  · refine Or.inl ⟨5, by omega, h5, fun j hj => ?_, ?_⟩
    · rcases (show j = 0 ∨ j = 1 ∨ j = 2 ∨ j = 3 ∨ j = 4 by omega) with rfl | rfl | rfl | rfl | rfl
      · exact h0
      · exact h1
      · exact h2
      · exact h3
      · exact h4
    · rw [if_pos h5]
      have : ∀ i, (if T i = 0 then 0 else 1) ≤ 1 := fun i => by split <;> omega
      have a1 := this 0
      have a2 := this 1
      have a3 := this 2
      have a4 := this 3
      have a5 := this 4
      omega
  · refine Or.inr ⟨fun j hj => ?_, ?_⟩
    · rcases (show j = 0 ∨ j = 1 ∨ j = 2 ∨ j = 3 ∨ j = 4 ∨ j = 5 by omega) with rfl | rfl | rfl | rfl | rfl | rfl
      · exact h0
      · exact h1
      · exact h2
      · exact h3
      · exact h4
      · exact h5
    · rw [if_neg h0, if_neg h1, if_neg h2, if_neg h3, if_neg h4, if_neg h5]
/-- X's blob, once the count without the place is known -/
theorem qx_blob62 {k : Nat} {fl : Int32} {pk pv wt hf us hk hv tk tv fw ho li kd ct ml uy rc cp : Nat → Int32} {φ m h w : Nat → Nat} {P R : Nat} {z0 z1 : Int32} (hD : qr_D m h w wt hf us ml)
    (hC : qr_C (qr_L m h) φ w pk pv hk hv tk tv kd ct uy) (hF : ∀ c, c < 120 → fw c = -1) (hH : qh_N ho (qh_T (qr_L m h) pk pv hk hv tk tv)) (hP : P < 3) (hR : R < 4)
    (hz : z1 - z0 = nI (qs_s (fun i => if qh_T (qr_L m h) (upd pk (4 * P + R) 0) (upd pv (4 * P + R) 0) hk hv tk tv i = 0 then 0 else 1) 6)) :
    wX_blob_62 (fun r u' => wpY_blob (fun r' v' => r' = r ∧ i_Rel (k + 5) u' v') (kd, ct, ml, uy, rc, cp) (nI P) (nI R)) (nI (4 * P + R)) z0 z1 fl pk pv wt hf us hk hv tk tv fw ho li := by
  have hB := qr_TWB (hC.1 (4 * P + R) (by omega))
  have hH1 := qh_as (k := 0) (x := 0) hH (show 4 * P + R < 21 by omega) (qh_Bn (by decide)) hB
  have hT : ∀ i, i < 6 → (qy_H w uy kd ct (nI i) (nI (4 * P + R)) 0 ↔ 0 < qh_T (qr_L m h) (upd pk (4 * P + R) 0) (upd pv (4 * P + R) 0) hk hv tk tv i) := fun i hi => by
    refine qr_held hC (fun q hq => ?_) (fun q h1 h2 z => ?_)
    · by_cases e : q = 4 * P + R
      · subst e
        rw [pk_us]
        exact ⟨fun z => absurd z.1 (by decide), fun z => absurd rfl z.1⟩
      · rw [pk_un e, pk_un e]
        exact ⟨fun z => ⟨fun y => e (qn_inj (by omega) (by omega) y), z⟩, fun z => z.2⟩
    · have := qn_inj (by omega) (by omega) z
      omega
  unfold wX_blob_62 wpY_blob
  dsimp only
  rw [hz]
  rcases qs_least (qh_T (qr_L m h) (upd pk (4 * P + R) 0) (upd pv (4 * P + R) 0) hk hv tk tv) with ⟨i, hi, h0, hl, hlt⟩ | ⟨hl, he⟩
  · refine br_t (nI_lt (b := 6) hlt (by decide)) (qx_assign (by omega) (qh_Bn (by decide)) hB ?_)
    refine qx_least (qh_NT hH1) hi h0 hl ?_
    have hB2 : qh_B 3 (nI i) := fun _ => ⟨i, hi, rfl⟩
    have hB3 : qh_B (upd pk (4 * P + R) 0 (4 * P + R)) (upd pv (4 * P + R) 0 (4 * P + R)) := by
      rw [pk_us]
      exact qh_Bn (by decide)
    refine qx_assign (by omega) hB2 hB3 ?_
    refine qy_bad0 hP hR (br_t rfl (Exists.intro (i + 1) (qy_blob_s hP hR (qr_hw hD) (qr_hu hC.2.2.2.2.2) hT hi h0 hl ⟨rfl, ?_⟩ i 0 (i + 1) (by omega) (by omega))))
    have hC2 := qr_as hC (show 4 * P + R < 21 by omega) (qr_thr hP hR) (k := 3) (x := nI i) (k' := 3) (y := nI i) (Or.inr (Or.inr (Or.inr ⟨rfl, i, hi, rfl⟩))) qr_TC3
    have e1 : upd (upd pk (4 * P + R) 0) (4 * P + R) 3 = upd pk (4 * P + R) 3 := by
      funext q
      by_cases e : q = 4 * P + R
      · subst e
        rw [pk_us, pk_us]
      · rw [pk_un e, pk_un e, pk_un e]
    have e2 : upd (upd pv (4 * P + R) 0) (4 * P + R) (nI i) = upd pv (4 * P + R) (nI i) := by
      funext q
      by_cases e : q = 4 * P + R
      · subst e
        rw [pk_us, pk_us]
      · rw [pk_un e, pk_un e, pk_un e]
    have hH2 := qh_as hH1 (show 4 * P + R < 21 by omega) hB2 hB3
    rw [e1, e2] at hH2
    rw [e1, e2]
    exact qr_mk φ m h w hD hC2 hF hH2
  · rw [he]
    refine br_f (by decide) ?_
    exact qy_bad0 hP hR (br_t rfl (Exists.intro 7 (qy_blob_n hP hR (qr_hw hD) (qr_hu hC.2.2.2.2.2) hT hl ⟨rfl, qr_mk φ m h w hD hC hF hH⟩ 6 0 7 rfl (by omega))))
theorem i_vc_blob {k : Nat} {u : SX} {v : SY} (I : i_Rel k u v) (hk : k + 5 ≤ 2560) (v1 : Int32) (v2 : Int32) : wpX_blob (fun r u' => wpY_blob (fun r' v' => r' = r ∧ i_Rel (k + 5) u' v') v v1 v2) u v1 v2 := by
  obtain ⟨fl, pk, pv, wt, hf, us, hK, hv, tk, tv, fw, ho, li⟩ := u
  obtain ⟨kd, ct, ml, uy, rc, cp⟩ := v
  rcases qb_fit v1 v2 with ⟨P, R, hP, hR, rfl, rfl⟩ | ⟨hX, hY⟩
  · obtain ⟨φ, m, h, w, hD, hC, hF, hH⟩ := qr_open I
    have hin : vp_in (nI (4 * P + R)) 21 := vp_in_nI (by omega) (by decide)
    have hn : (nI (4 * P + R)).toNatClampNeg = 4 * P + R := qn_c (by omega)
    have hB := qr_TWB (hC.1 (4 * P + R) (by omega))
    have hTp := fun i => qh_Tp (L := qr_L m h) (pk := pk) (pv := pv) (hk := hK) (hv := hv) (tk := tk) (tv := tv) (k := 0) (x := 0) i (show 4 * P + R < 21 by omega)
    have e00 : ∀ i, qh_e 0 0 i = 0 := fun i => qh_e0 (by decide)
    have kept : ∀ (z0 : Int32), (z0 = 0 ∨ z0 = 1) → nI (qs_s (fun i => if qh_T (qr_L m h) pk pv hK hv tk tv i = 0 then 0 else 1) 6) - z0 = nI (qs_s (fun i => if qh_T (qr_L m h) (upd pk (4 * P + R) 0) (upd pv (4 * P + R) 0) hK hv tk tv i = 0 then 0 else 1) 6) →
        wX_blob_46 (fun r u' => wpY_blob (fun r' v' => r' = r ∧ i_Rel (k + 5) u' v') (kd, ct, ml, uy, rc, cp) (nI P) (nI R)) (nI (4 * P + R)) z0 fl pk pv wt hf us hK hv tk tv fw ho li := by
      intro z0 hz he
      refine qx_kept (qh_NT hH) ?_
      rcases hz with rfl | rfl
      · exact br_t rfl (qx_blob62 hD hC hF hH hP hR he)
      · exact br_f (by decide) (qx_blob62 hD hC hF hH hP hR he)
    have same : (∀ i, i < 6 → (qh_T (qr_L m h) pk pv hK hv tk tv i = 0 ↔ qh_T (qr_L m h) (upd pk (4 * P + R) 0) (upd pv (4 * P + R) 0) hK hv tk tv i = 0)) →
        wX_blob_46 (fun r u' => wpY_blob (fun r' v' => r' = r ∧ i_Rel (k + 5) u' v') (kd, ct, ml, uy, rc, cp) (nI P) (nI R)) (nI (4 * P + R)) 0 fl pk pv wt hf us hK hv tk tv fw ho li := by
      intro hs
      refine kept 0 (Or.inl rfl) ?_
      rw [Int32.sub_zero]
      refine congrArg nI (qs_congr fun i hi => ?_)
      show (if qh_T (qr_L m h) pk pv hK hv tk tv i = 0 then 0 else 1) = (if qh_T (qr_L m h) (upd pk (4 * P + R) 0) (upd pv (4 * P + R) 0) hK hv tk tv i = 0 then 0 else 1)
      by_cases e : qh_T (qr_L m h) pk pv hK hv tk tv i = 0
      · rw [if_pos e, if_pos ((hs i hi).mp e)]
      · rw [if_neg e, if_neg (fun z => e ((hs i hi).mpr z))]
    unfold wpX_blob wX_blob_45
    dsimp only
    rw [qn_reg]
    refine qx_fit1 hP hR (br_f (by decide) (nm_e ⟨hin, ?_⟩))
    rw [hn]
    by_cases e : pk (4 * P + R) = 3
    · obtain ⟨d, hd, ed⟩ := hB e
      have ind : vp_in (nI d) 6 := vp_in_nI hd (by decide)
      obtain ⟨t1, t2⟩ := qh_NT hH d hd
      rw [ed, qn_c (by omega), t1]
      refine br_t e ⟨hin, ind, ?_⟩
      have hd1 := hTp d
      rw [e00, ed, qh_e1 e] at hd1
      have hother : ∀ i, i < 6 → i ≠ d → qh_T (qr_L m h) (upd pk (4 * P + R) 0) (upd pv (4 * P + R) 0) hK hv tk tv i = qh_T (qr_L m h) pk pv hK hv tk tv i := fun i hi hne => by
        have := hTp i
        rw [e00, ed, qh_en hd hi (fun z => hne z.symm)] at this
        omega
      refine pk_eq (qh_T (qr_L m h) pk pv hK hv tk tv d) 1 (fun q => ?_) (fun q => ?_)
      · refine kept 1 (Or.inr rfl) ?_
        have := qs_one (f := fun i => if qh_T (qr_L m h) pk pv hK hv tk tv i = 0 then 0 else 1) (g := fun i => if qh_T (qr_L m h) (upd pk (4 * P + R) 0) (upd pv (4 * P + R) 0) hK hv tk tv i = 0 then 0 else 1) (k := d) (n := 6) hd (fun i hi hne => by
          show (if qh_T (qr_L m h) pk pv hK hv tk tv i = 0 then 0 else 1) = (if qh_T (qr_L m h) (upd pk (4 * P + R) 0) (upd pv (4 * P + R) 0) hK hv tk tv i = 0 then 0 else 1)
          rw [hother i hi hne])
        rw [if_pos (show qh_T (qr_L m h) (upd pk (4 * P + R) 0) (upd pv (4 * P + R) 0) hK hv tk tv d = 0 by omega), if_neg (show ¬ qh_T (qr_L m h) pk pv hK hv tk tv d = 0 by omega)] at this
        rw [Nat.add_zero] at this
        rw [this, nI_pred]
      · refine same fun i hi => ?_
        by_cases ei : i = d
        · subst ei
          omega
        · rw [hother i hi ei]
    · refine br_f e (same fun i hi => ?_)
      have := hTp i
      rw [e00, qh_e0 e] at this
      rw [show qh_T (qr_L m h) (upd pk (4 * P + R) 0) (upd pv (4 * P + R) 0) hK hv tk tv i = qh_T (qr_L m h) pk pv hK hv tk tv i by omega]
  · unfold wpX_blob wpY_blob
    dsimp only
    exact hX _ (br_t rfl (hY _ (br_f (by decide) ⟨rfl, I⟩)))
end
section
/-! the constructors, receive -/
def qn_u (f : Nat → Nat) (p x : Nat) : Nat → Nat := fun q => if q = p then x else f q
theorem qn_us {f : Nat → Nat} {p x : Nat} : qn_u f p x p = x := if_pos rfl
theorem qn_un {f : Nat → Nat} {p x q : Nat} (h : q ≠ p) : qn_u f p x q = f q := if_neg h
theorem qx_init_l {fl : Int32} {pk pv wt hf us hk hv tk tv ho li : Nat → Int32} {post : SX → Prop} (h : ∀ fw : Nat → Int32, (∀ c, c < 120 → fw c = -1) → post (fl, pk, pv, wt, hf, us, hk, hv, tk, tv, fw, ho, li)) :
    ∀ (d i : Nat) (fw : Nat → Int32) (n : Nat), i + d = 120 → (∀ c, c < i → fw c = -1) → d < n → wX_init_99 post fl n (nI i) pk pv wt hf us hk hv tk tv fw ho li := by
  intro d
  induction d with
  | zero =>
    intro i fw n hi hF hn
    have e : i = 120 := by omega
    subst e
    cases n with
    | zero => omega
    | succ n => exact br_t (by decide) (h fw hF)
  | succ d ih =>
    intro i fw n hi hF hn
    cases n with
    | zero => omega
    | succ n =>
      have a := ih (i + 1) (upd fw i (-1)) n (by omega) (fun c hc => by
        by_cases e : c = i
        · subst e
          exact pk_us
        · rw [pk_un e]
          exact hF c (by omega)) (by omega)
      unfold wX_init_99
      rw [qn_c (by omega), nI_1]
      exact br_f (nI_ge (b := 120) (by omega) (by decide)) ⟨vp_in_nI (by omega) (by decide), nm_e (nm_e a)⟩
theorem i_vc0 : wpX_init (fun u => wpY_init (fun v => i_Rel 0 u v)) := by
  refine Exists.intro 121 (qx_init_l (fun fw hF => ?_) 120 0 (fun _ => 0) 121 rfl (fun c hc => absurd hc (Nat.not_lt_zero c)) (by omega))
  have hL : ∀ c, ¬ qr_L (fun _ => 0) (fun _ => 0) c = true := fun c z => by
    have := qr_Li.mp z
    omega
  unfold wpY_init
  refine qr_mk (fun _ => 0) (fun _ => 0) (fun _ => 0) (fun _ => 0) (fun p hp => ?_) ?_ hF (fun i hi => ?_)
  · exact ⟨Nat.zero_le _, Nat.zero_le _, Nat.zero_le _, rfl, rfl, rfl, rfl⟩
  · refine ⟨fun j hj => qr_TW00, fun c hc => absurd hc (hL c), fun j hj _ => ⟨rfl, rfl⟩, fun j hj _ => qr_TC00, fun c hc => absurd hc (hL c), fun c hc => absurd hc (hL c), fun c d hc => absurd hc (hL c), fun y hy => Or.inl rfl⟩
  · have : qh_T (qr_L (fun _ => 0) (fun _ => 0)) (fun _ => 0) (fun _ => 0) (fun _ => 0) (fun _ => 0) (fun _ => 0) (fun _ => 0) i = 0 := by
      unfold qh_T
      rw [qs_zero (fun j hj => qh_e0 (by decide)), qs_zero (fun c hc => qh_f0 (Bool.eq_false_iff.mpr (hL c)))]
    rw [this]
    rfl
theorem qr_XPu {L : Nat → Bool} {pk pv : Nat → Int32} {j : Nat} {k x : Int32} (H : qr_XP L pk pv) (hw : qr_TW L (qr_ow j) k x) : qr_XP L (upd pk j k) (upd pv j x) := by
  intro q hq
  by_cases z : q = j
  · subst z
    rw [pk_us, pk_us]
    exact hw
  · rw [pk_un z, pk_un z]
    exact H q hq
/-- places move -/
theorem qr_shuf {L : Nat → Bool} {φ w w' : Nat → Nat} {pk pv pk' pv' hk hv tk tv kd ct kd' ct' uy : Nat → Int32} {e : Nat} (σ : Nat → Nat) (H : qr_C L φ w pk pv hk hv tk tv kd ct uy)
    (hσ : ∀ q, q < 21 → q ≠ e → σ q < 21 ∧ qr_ow (σ q) = qr_ow q ∧ (qr_th w' q ↔ qr_th w (σ q)) ∧ pk' q = pk (σ q) ∧ pv' q = pv (σ q) ∧ kd' q = kd (σ q) ∧ ct' q = ct (σ q))
    (he : pk' e = 0 ∧ pv' e = 0 ∧ ¬ qr_th w' e) (hr : ∀ q, 21 ≤ q → kd' q = kd q ∧ ct' q = ct q) : qr_C L φ w' pk' pv' hk hv tk tv kd' ct' uy := by
  obtain ⟨a, b, c, d, f, g⟩ := H
  obtain ⟨e1, e2, e3⟩ := he
  refine ⟨fun q hq => ?_, b, fun q hq hn => ?_, fun q hq hn => ?_, fun q hq => ?_, g⟩
  · by_cases z : q = e
    · subst z
      rw [e1, e2]
      exact qr_TW00
    · obtain ⟨s1, s2, s3, s4, s5, s6, s7⟩ := hσ q hq z
      rw [s4, s5, ← s2]
      exact a _ s1
  · by_cases z : q = e
    · subst z
      exact ⟨e1, e2⟩
    · obtain ⟨s1, s2, s3, s4, s5, s6, s7⟩ := hσ q hq z
      rw [s4, s5]
      exact c _ s1 (fun y => hn (s3.mpr y))
  · by_cases z : q = e
    · subst z
      exact absurd hn e3
    · obtain ⟨s1, s2, s3, s4, s5, s6, s7⟩ := hσ q hq z
      rw [s4, s5, s6, s7]
      exact d _ s1 (s3.mp hn)
  · rw [(hr (21 + 2 * φ q) (by omega)).1, (hr (21 + 2 * φ q) (by omega)).2, (hr (22 + 2 * φ q) (by omega)).1, (hr (22 + 2 * φ q) (by omega)).2]
    exact f q hq
/-- three takes -/
def qv_3 (f : Nat → Int32) (d b : Nat) : Nat → Int32 := upd (upd (upd f d (f b)) b (upd f d (f b) (b + 1))) (b + 1) (upd (upd f d (f b)) b (upd f d (f b) (b + 1)) (b + 2))
def qv_s (d b q : Nat) : Nat := if q = b + 1 then b + 2 else if q = b then b + 1 else if q = d then b else q
theorem qv_e {f : Nat → Int32} {d b q : Nat} (hd : d < 12) (hb : 12 ≤ b) : qv_3 f d b q = f (qv_s d b q) := by
  unfold qv_3 qv_s
  rw [pk_un (show b + 2 ≠ b by omega), pk_un (show b + 2 ≠ d by omega), pk_un (show b + 1 ≠ d by omega)]
  by_cases h1 : q = b + 1
  · rw [if_pos h1, h1, pk_us]
  rw [if_neg h1, pk_un h1]
  by_cases h2 : q = b
  · rw [if_pos h2, h2, pk_us]
  rw [if_neg h2, pk_un h2]
  by_cases h3 : q = d
  · rw [if_pos h3, h3, pk_us]
  rw [if_neg h3, pk_un h3]
theorem qx_recv_s {fl : Int32} {pk pv wt hf us hk hv tk tv fw ho li : Nat → Int32} {post : Int32 → SX → Prop} {x1 : Int32} {b r n : Nat} (hb : b + r + 1 < 21) (hr : r < 2)
    (b1 : qh_B (pk (b + r + 1)) (pv (b + r + 1))) (b2 : qh_B (pk (b + r)) (pv (b + r)))
    (h : wX_receive_53 post x1 (nI b) n (nI (r + 1)) fl (upd pk (b + r) (pk (b + r + 1))) (upd pv (b + r) (pv (b + r + 1))) wt hf us hk hv tk tv fw (qh_l (qh_h ho (pk (b + r + 1)) (pv (b + r + 1))) (pk (b + r)) (pv (b + r))) li) :
    wX_receive_53 post x1 (nI b) (n + 1) (nI r) fl pk pv wt hf us hk hv tk tv fw ho li := by
  have hin : vp_in (nI (b + r + 1)) 21 := vp_in_nI hb (by decide)
  unfold wX_receive_53
  rw [nI_add, nI_1, nI_1, qn_c (by omega)]
  exact br_f (nI_ge (b := 2) hr (by decide)) ⟨hin, hin, qx_assign (by omega) b1 b2 (nm_e h)⟩
theorem i_vc_receive {k : Nat} {u : SX} {v : SY} (I : i_Rel k u v) (hk : k + 5 ≤ 2560) (v1 : Int32) (v2 : Int32) : wpX_receive (fun r u' => wpY_receive (fun r' v' => r' = r ∧ i_Rel (k + 5) u' v') v v1 v2) u v1 v2 := by
  obtain ⟨fl, pk, pv, wt, hf, us, hK, hv, tk, tv, fw, ho, li⟩ := u
  obtain ⟨kd, ct, ml, uy, rc, cp⟩ := v
  rcases qb_fit v1 v2 with ⟨P, R, hP, hR, rfl, rfl⟩ | ⟨hX, hY⟩
  · obtain ⟨φ, m, h, w, hD, hC, hF, hH⟩ := qr_open I
    obtain ⟨d1, d2, d3, d4, d5, d6, d7⟩ := hD P hP
    have inP : vp_in (nI P) 3 := vp_in_nI hP (by decide)
    have inb : vp_in (nI (12 + 3 * P)) 21 := vp_in_nI (by omega) (by decide)
    have cP : (nI P).toNatClampNeg = P := qn_c (by omega)
    have cb : (nI (12 + 3 * P)).toNatClampNeg = 12 + 3 * P := qn_c (by omega)
    have o1 := qr_owr hP hR
    have o2 := qr_owm hP (show 0 < 3 by omega)
    have o3 := qr_owm hP (show 1 < 3 by omega)
    have o4 := qr_owm hP (show 2 < 3 by omega)
    rw [Nat.add_zero] at o2
    have x0 := hC.1
    unfold wpX_receive wpY_receive
    dsimp only
    rw [qn_reg, cP, d4, d5, qn_box]
    refine qx_fit1 hP hR (br_f (by decide) ⟨inP, ?_⟩)
    refine pk_eq (w P) 0 (fun z => ?_) (fun z => ?_)
    · refine qy_bad0 hP hR (br_t rfl ⟨inP, br_t ?_ ⟨rfl, I⟩⟩)
      rw [z]
      rfl
    have hgt : 0 < w P := by omega
    refine nm_e ⟨inb, inb, ?_⟩
    rw [cb]
    have w1 := x0 (12 + 3 * P) (by omega)
    rw [o2] at w1
    refine qx_assign (by omega) (qr_TWB w1) (qr_TWB (x0 _ (by omega))) ?_
    have h1 := qh_as hH (show 4 * P + R < 21 by omega) (qr_TWB w1) (qr_TWB (x0 _ (by omega)))
    have x1 := qr_XPu x0 (j := 4 * P + R) (by rw [o1]; exact w1)
    refine Exists.intro 3 ?_
    have w2 := x1 (12 + 3 * P + 0 + 1) (by omega)
    have e2 : qr_ow (12 + 3 * P + 0 + 1) = P := o3
    rw [e2] at w2
    refine qx_recv_s (r := 0) (by omega) (by omega) (qr_TWB w2) (qr_TWB (x1 _ (by omega))) ?_
    have h2 := qh_as h1 (show 12 + 3 * P + 0 < 21 by omega) (qr_TWB w2) (qr_TWB (x1 _ (by omega)))
    have x2 := qr_XPu x1 (j := 12 + 3 * P + 0) (by rw [show qr_ow (12 + 3 * P + 0) = P from o2]; exact w2)
    have w3 := x2 (12 + 3 * P + 1 + 1) (by omega)
    have e3 : qr_ow (12 + 3 * P + 1 + 1) = P := o4
    rw [e3] at w3
    refine qx_recv_s (r := 1) (by omega) (by omega) (qr_TWB w3) (qr_TWB (x2 _ (by omega))) ?_
    have h3 := qh_as h2 (show 12 + 3 * P + 1 < 21 by omega) (qr_TWB w3) (qr_TWB (x2 _ (by omega)))
    have x3 := qr_XPu x2 (j := 12 + 3 * P + 1) (by rw [o3]; exact w3)
    unfold wX_receive_53
    rw [show nI (12 + 3 * P) + 2 = nI (12 + 3 * P + 2) from nI_add (12 + 3 * P) 2]
    refine br_t (by decide) (qx_assign (by omega) (qh_Bn (by decide)) (qr_TWB (x3 _ (by omega))) ⟨inP, inP, ?_⟩)
    have h4 := qh_as (k := 0) (x := 0) h3 (show 12 + 3 * P + 2 < 21 by omega) (qh_Bn (by decide)) (qr_TWB (x3 _ (by omega)))
    dsimp only
    rw [cP, d4]
    refine nm_e (qy_bad0 hP hR (br_t rfl ⟨inP, br_f (nI_ne0 hgt (by omega)) (nm_e ?_)⟩))
    rw [show nI (12 + 3 * P) + 1 = nI (12 + 3 * P + 1) from nI_add (12 + 3 * P) 1, show nI (12 + 3 * P) + 2 = nI (12 + 3 * P + 2) from nI_add (12 + 3 * P) 2]
    refine qy_take (by omega) (by omega) (qy_take (by omega) (by omega) (qy_take (by omega) (by omega) ⟨inP, inP, nm_e ⟨rfl, ?_⟩⟩))
    obtain ⟨y, hy⟩ : ∃ y, w P = y + 1 := ⟨w P - 1, by omega⟩
    have ew : nI (w P) - 1 = nI (w P - 1) := by rw [hy, nI_pred]; rfl
    dsimp only
    rw [d5, ew]
    refine qr_mk φ m h (qn_u w P (w P - 1)) (fun p hp => ?_) ?_ hF h4
    · obtain ⟨f1, f2, f3, f4, f5, f6, f7⟩ := hD p hp
      by_cases e : p = P
      · subst e
        rw [pk_us, pk_us, qn_us]
        exact ⟨f1, f2, by omega, rfl, rfl, f6, f7⟩
      · rw [pk_un e, pk_un e, qn_un e]
        exact ⟨f1, f2, f3, f4, f5, f6, f7⟩
    · refine qr_shuf (e := 12 + 3 * P + 2) (qv_s (4 * P + R) (12 + 3 * P)) hC (fun q hq hne => ?_) ⟨pk_us, pk_us, ?_⟩ (fun q hq => ?_)
      · rw [pk_un hne, pk_un hne]
        refine ⟨?_, ?_, ?_, qv_e (by omega) (by omega), qv_e (by omega) (by omega), qv_e (by omega) (by omega), qv_e (by omega) (by omega)⟩
        · unfold qv_s
          split
          · omega
          · split
            · omega
            · split <;> omega
        · unfold qv_s
          split
          · rename_i e
            rw [e, o3, o4]
          · split
            · rename_i e
              rw [e, o2, o3]
            · split
              · rename_i e
                rw [e, o1, o2]
              · rfl
        · unfold qv_s
          split
          · rename_i e
            rw [e, qr_thm (by omega), qr_thm (by omega), qn_us]
            omega
          · split
            · rename_i e
              have t := qr_thm (w := qn_u w P (w P - 1)) (p := P) (r := 0) (by omega)
              rw [Nat.add_zero] at t
              rw [e, t, qr_thm (by omega), qn_us]
              omega
            · split
              · rename_i e
                have t := qr_thm (w := w) (p := P) (r := 0) (by omega)
                rw [Nat.add_zero] at t
                rw [e, t]
                exact ⟨fun _ => hgt, fun _ => qr_thr hP hR⟩
              · rcases qr_pl hq with ⟨p, r, hp, hr, rfl⟩ | ⟨p, r, hp, hr, rfl⟩
                · exact ⟨fun _ => qr_thr hp hr, fun _ => qr_thr hp hr⟩
                · rw [qr_thm hr, qr_thm hr, qn_un (by omega)]
      · rw [qr_thm (by omega), qn_us]
        omega
      · have e : qv_s (4 * P + R) (12 + 3 * P) q = q := by
          unfold qv_s
          rw [if_neg (by omega), if_neg (by omega), if_neg (by omega)]
        refine ⟨(qv_e (f := kd) (d := 4 * P + R) (b := 12 + 3 * P) (by omega) (by omega)).trans (by rw [e]), (qv_e (f := ct) (d := 4 * P + R) (b := 12 + 3 * P) (by omega) (by omega)).trans (by rw [e])⟩
  · unfold wpX_receive wpY_receive
    dsimp only
    exact hX _ (br_t rfl (hY _ (br_f (by decide) ⟨rfl, I⟩)))
end
section
/-! restart -/
theorem qh_cdn {L L' : Nat → Bool} {pk pv hk hv tk tv ho : Nat → Int32} {c : Nat} (h : qh_N ho (qh_T L pk pv hk hv tk tv)) (hc : c < 120) (hL : L c = true) (hL' : L' c = false) (hne : ∀ d, d ≠ c → L' d = L d)
    (b1 : qh_B (hk c) (hv c)) (b2 : qh_B (tk c) (tv c)) : qh_N (qh_l (qh_l ho (hk c) (hv c)) (tk c) (tv c)) (qh_T L' pk pv hk hv tk tv) := by
  have key : ∀ i, qh_T L pk pv hk hv tk tv i = qh_T L' pk pv hk hv tk tv i + qh_e (tk c) (tv c) i + qh_e (hk c) (hv c) i := fun i => by
    have a := qh_T1 (L := L) (L' := L') (pk := pk) (pv := pv) (hk := hk) (hv := hv) (tk := tk) (tv := tv) (hk' := hk) (hv' := hv) (tk' := tk) (tv' := tv) (d := c) i hc
      (fun d _ hd => qh_fe (hne d hd) (fun _ => ⟨rfl, rfl, rfl, rfl⟩))
    rw [qh_f0 hL', qh_f1 hL] at a
    omega
  exact qh_dn (qh_dn (N' := fun i => qh_T L' pk pv hk hv tk tv i + qh_e (tk c) (tv c) i) h b1 (fun i _ => key i)) b2 (fun i _ => rfl)
section
variable {fl : Int32} {wt hf us hk hv tk tv fw li : Nat → Int32}
theorem qx_rst12 {L : Nat → Bool} {p : Nat} (hp : p < 3) : ∀ (d r : Nat) (pk pv ho : Nat → Int32), r + d = 4 → qr_XP L pk pv → qh_N ho (qh_T L pk pv hk hv tk tv) →
    ∃ pk' pv' ho' : Nat → Int32, qr_XP L pk' pv' ∧ qh_N ho' (qh_T L pk' pv' hk hv tk tv) ∧ (∀ q, 4 * p + r ≤ q → q < 4 * p + 4 → pk' q = 0 ∧ pv' q = 0) ∧
      (∀ q, ¬ (4 * p + r ≤ q ∧ q < 4 * p + 4) → pk' q = pk q ∧ pv' q = pv q) ∧
      ∀ (post : Int32 → SX → Prop) (n : Nat), d < n → (∃ n36, wX_restart_36 post (nI p) n36 0 fl pk' pv' wt hf us hk hv tk tv fw ho' li) → wX_restart_12 post (nI p) n (nI r) fl pk pv wt hf us hk hv tk tv fw ho li := by
  intro d
  induction d with
  | zero =>
    intro r pk pv ho hr hX hH
    have e : r = 4 := by omega
    subst e
    refine ⟨pk, pv, ho, hX, hH, fun q h1 h2 => by omega, fun q _ => ⟨rfl, rfl⟩, fun post n hn h => ?_⟩
    cases n with
    | zero => omega
    | succ n => exact br_t (by decide) h
  | succ d ih =>
    intro r pk pv ho hr hX hH
    have hB := qr_TWB (hX (4 * p + r) (by omega))
    obtain ⟨pk', pv', ho', h1, h2, h3, h4, h5⟩ := ih (r + 1) (upd pk (4 * p + r) 0) (upd pv (4 * p + r) 0) _ (by omega) (qr_XPu hX qr_TW00) (qh_as hH (by omega) (qh_Bn (by decide)) hB)
    refine ⟨pk', pv', ho', h1, h2, fun q q1 q2 => ?_, fun q hq => ?_, fun post n hn h => ?_⟩
    · by_cases e : q = 4 * p + r
      · obtain ⟨a, b⟩ := h4 q (by omega)
        rw [a, b, e, pk_us, pk_us]
        exact ⟨rfl, rfl⟩
      · exact h3 q (by omega) q2
    · obtain ⟨a, b⟩ := h4 q (by omega)
      rw [a, b, pk_un (by omega), pk_un (by omega)]
      exact ⟨rfl, rfl⟩
    · cases n with
      | zero => omega
      | succ n =>
        have a := h5 post n (by omega) h
        unfold wX_restart_12
        rw [qn_reg, nI_1]
        exact br_f (nI_ge (b := 4) (by omega) (by decide)) (qx_assign (by omega) (qh_Bn (by decide)) hB (nm_e a))
theorem qx_rst36 {L : Nat → Bool} {p a : Nat} (hp : p < 3) (hh : hf p = nI a) : ∀ (d r : Nat) (pk pv ho : Nat → Int32), r + d = 3 → qr_XP L pk pv → qh_N ho (qh_T L pk pv hk hv tk tv) →
    ∃ pk' pv' ho' : Nat → Int32, qr_XP L pk' pv' ∧ qh_N ho' (qh_T L pk' pv' hk hv tk tv) ∧ (∀ q, 12 + 3 * p + r ≤ q → q < 12 + 3 * p + 3 → pk' q = 0 ∧ pv' q = 0) ∧
      (∀ q, ¬ (12 + 3 * p + r ≤ q ∧ q < 12 + 3 * p + 3) → pk' q = pk q ∧ pv' q = pv q) ∧
      ∀ (post : Int32 → SX → Prop) (n : Nat), d < n → (∃ n85, wX_restart_85 post (nI p) (nI (40 * p + 20 * a)) n85 (nI (40 * p + 20 * a)) fl pk' pv' (upd wt p 0) hf us hk hv tk tv fw ho' li) →
        wX_restart_36 post (nI p) n (nI r) fl pk pv wt hf us hk hv tk tv fw ho li := by
  intro d
  induction d with
  | zero =>
    intro r pk pv ho hr hX hH
    have e : r = 3 := by omega
    subst e
    refine ⟨pk, pv, ho, hX, hH, fun q h1 h2 => by omega, fun q _ => ⟨rfl, rfl⟩, fun post n hn h => ?_⟩
    cases n with
    | zero => omega
    | succ n =>
      have hin : vp_in (nI p) 3 := vp_in_nI hp (by decide)
      unfold wX_restart_36
      rw [qn_c (a := p) (by omega), hh, qn_base]
      exact br_t (by decide) ⟨hin, nm_e ⟨hin, nm_e h⟩⟩
  | succ d ih =>
    intro r pk pv ho hr hX hH
    have hB := qr_TWB (hX (12 + 3 * p + r) (by omega))
    obtain ⟨pk', pv', ho', h1, h2, h3, h4, h5⟩ := ih (r + 1) (upd pk (12 + 3 * p + r) 0) (upd pv (12 + 3 * p + r) 0) _ (by omega) (qr_XPu hX qr_TW00) (qh_as hH (by omega) (qh_Bn (by decide)) hB)
    refine ⟨pk', pv', ho', h1, h2, fun q q1 q2 => ?_, fun q hq => ?_, fun post n hn h => ?_⟩
    · by_cases e : q = 12 + 3 * p + r
      · obtain ⟨a, b⟩ := h4 q (by omega)
        rw [a, b, e, pk_us, pk_us]
        exact ⟨rfl, rfl⟩
      · exact h3 q (by omega) q2
    · obtain ⟨a, b⟩ := h4 q (by omega)
      rw [a, b, pk_un (by omega), pk_un (by omega)]
      exact ⟨rfl, rfl⟩
    · cases n with
      | zero => omega
      | succ n =>
        have a := h5 post n (by omega) h
        unfold wX_restart_36
        rw [qn_mail, nI_1]
        exact br_f (nI_ge (b := 3) (by omega) (by decide)) (qx_assign (by omega) (qh_Bn (by decide)) hB (nm_e a))
theorem qx_rst85 {pk pv : Nat → Int32} {p b M : Nat} {L' : Nat → Bool} (hp : p < 3) (hu : us p = nI M) (hb : b + M ≤ 120) (hB : ∀ c, b ≤ c → c < b + M → qh_B (hk c) (hv c) ∧ qh_B (tk c) (tv c)) :
    ∀ (d i : Nat) (ho : Nat → Int32) (L : Nat → Bool), i + d = M → (∀ c, b + i ≤ c → c < b + M → L c = true ∧ L' c = false) → (∀ c, ¬ (b + i ≤ c ∧ c < b + M) → L' c = L c) → qh_N ho (qh_T L pk pv hk hv tk tv) →
    ∃ ho' : Nat → Int32, qh_N ho' (qh_T L' pk pv hk hv tk tv) ∧ ∀ (post : Int32 → SX → Prop) (n : Nat), d < n → post 0 (fl, pk, pv, wt, hf, upd us p 0, hk, hv, tk, tv, fw, ho', li) →
      wX_restart_85 post (nI p) (nI b) n (nI (b + i)) fl pk pv wt hf us hk hv tk tv fw ho li := by
  have hin : vp_in (nI p) 3 := vp_in_nI hp (by decide)
  intro d
  induction d with
  | zero =>
    intro i ho L hi _ hL hH
    have e : i = M := by omega
    subst e
    have eL : L' = L := funext fun c => hL c (by omega)
    refine ⟨ho, by rw [eL]; exact hH, fun post n hn h => ?_⟩
    cases n with
    | zero => omega
    | succ n =>
      unfold wX_restart_85
      rw [qn_c (a := p) (by omega), hu, nI_add]
      exact ⟨hin, br_t (nI_le (Nat.le_refl _) (by omega)) ⟨hin, nm_e h⟩⟩
  | succ d ih =>
    intro i ho L hi hL1 hL hH
    obtain ⟨b1, b2⟩ := hB (b + i) (by omega) (by omega)
    obtain ⟨l1, l2⟩ := hL1 (b + i) (by omega) (by omega)
    obtain ⟨ho', h1, h2⟩ := ih (i + 1) _ (fun c => if c = b + i then false else L c) (by omega) (fun c c1 c2 => by
      show (if c = b + i then false else L c) = true ∧ L' c = false
      rw [if_neg (by omega)]
      exact hL1 c (by omega) c2) (fun c hc => by
      show L' c = if c = b + i then false else L c
      by_cases e : c = b + i
      · rw [if_pos e, e, l2]
      · rw [if_neg e]
        exact hL c (by omega)) (qh_cdn (c := b + i) hH (by omega) l1 (if_pos rfl) (fun d hd => if_neg hd) b1 b2)
    refine ⟨ho', h1, fun post n hn h => ?_⟩
    cases n with
    | zero => omega
    | succ n =>
      have a := h2 post n (by omega) h
      have hic : vp_in (nI (b + i)) 120 := vp_in_nI (by omega) (by decide)
      unfold wX_restart_85
      rw [qn_c (a := p) (by omega), qn_c (a := b + i) (by omega), hu, nI_add, nI_1]
      refine ⟨hin, br_f (nI_ge (by omega) (by omega)) ⟨hic, hic, qx_letGo b1 ⟨hic, hic, qx_letGo b2 (nm_e a)⟩⟩⟩
end
section
variable {ml uy rc cp : Nat → Int32}
theorem qy_rst12 {p : Nat} (hp : p < 3) : ∀ (d r : Nat) (kd ct : Nat → Int32), r + d = 4 →
    ∃ kd' ct' : Nat → Int32, (∀ q, 4 * p + r ≤ q → q < 4 * p + 4 → kd' q = 0) ∧ (∀ q, ¬ (4 * p + r ≤ q ∧ q < 4 * p + 4) → kd' q = kd q ∧ ct' q = ct q) ∧
      ∀ (post : Int32 → SY → Prop) (n : Nat), d < n → (∃ n46, wY_restart_46 post (nI p) n46 (nI (20 * p)) kd' ct' (upd ml p 0) uy rc cp) → wY_restart_12 post (nI p) n (nI r) kd ct ml uy rc cp := by
  intro d
  induction d with
  | zero =>
    intro r kd ct hr
    have e : r = 4 := by omega
    subst e
    refine ⟨kd, ct, fun q h1 h2 => by omega, fun q _ => ⟨rfl, rfl⟩, fun post n hn h => ?_⟩
    cases n with
    | zero => omega
    | succ n =>
      unfold wY_restart_12
      rw [qn_c (a := p) (by omega), qn_20]
      exact br_t (by decide) ⟨vp_in_nI hp (by decide), nm_e (nm_e h)⟩
  | succ d ih =>
    intro r kd ct hr
    obtain ⟨kd', ct', h3, h4, h5⟩ := ih (r + 1) (upd kd (4 * p + r) 0) (upd ct (4 * p + r) 0) (by omega)
    refine ⟨kd', ct', fun q q1 q2 => ?_, fun q hq => ?_, fun post n hn h => ?_⟩
    · by_cases e : q = 4 * p + r
      · obtain ⟨a, b⟩ := h4 q (by omega)
        rw [a, e, pk_us]
      · exact h3 q (by omega) q2
    · obtain ⟨a, b⟩ := h4 q (by omega)
      rw [a, b, pk_un (by omega), pk_un (by omega)]
      exact ⟨rfl, rfl⟩
    · cases n with
      | zero => omega
      | succ n =>
        have a := h5 post n (by omega) h
        unfold wY_restart_12
        rw [qn_reg, nI_1]
        exact br_f (nI_ge (b := 4) (by omega) (by decide)) (qy_set (by omega) (nm_e a))
theorem qy_rst46 {kd ct : Nat → Int32} {p : Nat} (hp : p < 3) : ∀ (d i : Nat) (uy : Nat → Int32), i + d = 20 →
    ∃ uy' : Nat → Int32, (∀ y, 20 * p + i ≤ y → y < 20 * p + 20 → uy' y = 0) ∧ (∀ y, ¬ (20 * p + i ≤ y ∧ y < 20 * p + 20) → uy' y = uy y) ∧
      ∀ (post : Int32 → SY → Prop) (n : Nat), d < n → post 0 (kd, ct, ml, uy', rc, cp) → wY_restart_46 post (nI p) n (nI (20 * p + i)) kd ct ml uy rc cp := by
  intro d
  induction d with
  | zero =>
    intro i uy hi
    have e : i = 20 := by omega
    subst e
    refine ⟨uy, fun q h1 h2 => by omega, fun q _ => rfl, fun post n hn h => ?_⟩
    cases n with
    | zero => omega
    | succ n =>
      unfold wY_restart_46
      rw [qn_20p]
      exact br_t (nI_le (Nat.le_refl _) (by omega)) h
  | succ d ih =>
    intro i uy hi
    obtain ⟨uy', h3, h4, h5⟩ := ih (i + 1) (upd uy (20 * p + i) 0) (by omega)
    refine ⟨uy', fun q q1 q2 => ?_, fun q hq => ?_, fun post n hn h => ?_⟩
    · by_cases e : q = 20 * p + i
      · rw [h4 q (by omega), e, pk_us]
      · exact h3 q (by omega) q2
    · rw [h4 q (by omega), pk_un (by omega)]
    · cases n with
      | zero => omega
      | succ n =>
        have a := h5 post n (by omega) h
        unfold wY_restart_46
        rw [qn_20p, qn_c (a := 20 * p + i) (by omega), qn_b0, nI_1]
        exact br_f (nI_ge (by omega) (by omega)) ⟨vp_in_nI (by omega) (by decide), nm_e (nm_e a)⟩
end
theorem i_vc_restart {k : Nat} {u : SX} {v : SY} (I : i_Rel k u v) (hk : k + 5 ≤ 2560) (v1 : Int32) : wpX_restart (fun r u' => wpY_restart (fun r' v' => r' = r ∧ i_Rel (k + 5) u' v') v v1) u v1 := by
  obtain ⟨fl, pk, pv, wt, hf, us, hK, hv, tk, tv, fw, ho, li⟩ := u
  obtain ⟨kd, ct, ml, uy, rc, cp⟩ := v
  unfold wpX_restart wpY_restart
  dsimp only
  rcases qb_fit v1 0 with ⟨P, R, hP, hR, rfl, hz⟩ | ⟨hX, hY⟩
  · obtain ⟨φ, m, h, w, hD, hC, hF, hH⟩ := qr_open I
    obtain ⟨d1, d2, d3, d4, d5, d6, d7⟩ := hD P hP
    obtain ⟨pk1, pv1, ho1, a1, a2, a3, a4, a5⟩ := qx_rst12 (fl := fl) (wt := wt) (hf := hf) (us := us) (fw := fw) (li := li) hP 4 0 pk pv ho rfl hC.1 hH
    obtain ⟨pk2, pv2, ho2, b1, b2, b3, b4, b5⟩ := qx_rst36 (fl := fl) (wt := wt) (hf := hf) (us := us) (fw := fw) (li := li) hP d6 3 0 pk1 pv1 ho1 rfl a1 a2
    have hLp : ∀ c, qr_L m h c = true → c / 40 = P → 40 * P + 20 * h P ≤ c ∧ c < 40 * P + 20 * h P + m P := fun c hc e => by
      have := qr_Li.mp hc
      rw [e] at this
      omega
    have hL1 : ∀ c, qr_L (qn_u m P 0) h c = true ↔ (qr_L m h c = true ∧ c / 40 ≠ P) := fun c => by
      rw [qr_Li, qr_Li]
      by_cases e : c / 40 = P
      · rw [e, qn_us]
        omega
      · rw [qn_un e]
        omega
    obtain ⟨ho3, c1, c2⟩ := qx_rst85 (fl := fl) (wt := upd wt P 0) (hf := hf) (us := us) (hk := hK) (hv := hv) (tk := tk) (tv := tv) (fw := fw) (li := li) (pk := pk2) (pv := pv2) (b := 40 * P + 20 * h P) (M := m P) (L' := qr_L (qn_u m P 0) h) hP d7 (by omega)
      (fun c e1 e2 => by
        obtain ⟨_, w1, w2⟩ := hC.2.1 c (qr_Lm hP d1 d2 e1 e2).1
        exact ⟨qr_TWB w1, qr_TWB w2⟩) (m P) 0 ho2 (qr_L m h) (by omega) (fun c e1 e2 => by
        obtain ⟨l1, l2⟩ := qr_Lm (m := m) (h := h) hP d1 d2 (by omega) e2
        exact ⟨l1, Bool.eq_false_iff.mpr fun z => ((hL1 c).mp z).2 l2⟩) (fun c hc => by
        cases e : qr_L m h c with
        | false => exact Bool.eq_false_iff.mpr fun z => absurd ((hL1 c).mp z).1 (by rw [e]; decide)
        | true =>
          refine (hL1 c).mpr ⟨e, fun z => ?_⟩
          have := hLp c e z
          omega) b2
    obtain ⟨kd1, ct1, y1, y2, y3⟩ := qy_rst12 (ml := ml) (uy := uy) (rc := rc) (cp := cp) hP 4 0 kd ct rfl
    obtain ⟨uy1, z1, z2, z3⟩ := qy_rst46 (ml := upd ml P 0) (rc := rc) (cp := cp) (kd := kd1) (ct := ct1) hP 20 0 uy rfl
    refine qx_fit1 (R := 0) hP (by decide) (br_f (by decide) (Exists.intro 5 (a5 _ 5 (by omega) (Exists.intro 4 (b5 _ 4 (by omega) (Exists.intro (m P + 1) (c2 _ (m P + 1) (by omega) ?_)))))))
    refine qy_bad0 (R := 0) hP (by decide) (br_t rfl (Exists.intro 5 (y3 _ 5 (by omega) (Exists.intro 21 (z3 _ 21 (by omega) ⟨rfl, ?_⟩)))))
    have own0 : ∀ q, q < 21 → qr_ow q = P → pk2 q = 0 ∧ pv2 q = 0 := fun q hq ho => by
      rcases qr_pl hq with ⟨p, r, hp, hr, rfl⟩ | ⟨p, r, hp, hr, rfl⟩
      · rw [qr_owr hp hr] at ho
        subst ho
        obtain ⟨e1, e2⟩ := b4 (4 * p + r) (by omega)
        rw [e1, e2]
        exact a3 _ (by omega) (by omega)
      · rw [qr_owm hp hr] at ho
        subst ho
        exact b3 _ (by omega) (by omega)
    have ownn : ∀ q, q < 21 → qr_ow q ≠ P → pk2 q = pk q ∧ pv2 q = pv q := fun q hq ho => by
      rcases qr_pl hq with ⟨p, r, hp, hr, rfl⟩ | ⟨p, r, hp, hr, rfl⟩
      · rw [qr_owr hp hr] at ho
        obtain ⟨e1, e2⟩ := b4 (4 * p + r) (by omega)
        rw [e1, e2]
        exact a4 _ (by omega)
      · rw [qr_owm hp hr] at ho
        obtain ⟨e1, e2⟩ := b4 (12 + 3 * p + r) (by omega)
        rw [e1, e2]
        exact a4 _ (by omega)
    have owth : ∀ q, q < 21 → qr_ow q ≠ P → (qr_th (qn_u w P 0) q ↔ qr_th w q) := fun q hq ho => by
      rcases qr_pl hq with ⟨p, r, hp, hr, rfl⟩ | ⟨p, r, hp, hr, rfl⟩
      · exact ⟨fun _ => qr_thr hp hr, fun _ => qr_thr hp hr⟩
      · rw [qr_owm hp hr] at ho
        rw [qr_thm hr, qr_thm hr, qn_un ho]
    obtain ⟨hXP, hXC, hXN, hYP, hYC, hF1, hF2, hF3⟩ := hC
    refine qr_mk φ (qn_u m P 0) h (qn_u w P 0) (fun p hp => ?_) ⟨fun q hq => ?_, fun c hc => ?_, fun q hq hn => ?_, fun q hq hn => ?_, fun c hc => ?_, fun c hc => ?_, fun c d hc hd => ?_, fun y hy => ?_⟩ hF c1
    · obtain ⟨f1, f2, f3, f4, f5, f6, f7⟩ := hD p hp
      by_cases e : p = P
      · subst e
        rw [pk_us, pk_us, pk_us, qn_us, qn_us]
        exact ⟨by omega, f2, by omega, rfl, rfl, f6, rfl⟩
      · rw [pk_un e, pk_un e, pk_un e, qn_un e, qn_un e]
        exact ⟨f1, f2, f3, f4, f5, f6, f7⟩
    · by_cases e : qr_ow q = P
      · rw [(own0 q hq e).1, (own0 q hq e).2]
        exact qr_TW00
      · rw [(ownn q hq e).1, (ownn q hq e).2]
        exact qr_TWm (hXP q hq) (fun d hd hd2 => (hL1 d).mpr ⟨hd, fun z => e (hd2.symm.trans z)⟩)
    · obtain ⟨l1, l2⟩ := (hL1 c).mp hc
      obtain ⟨x1, x2, x3⟩ := hXC c l1
      exact ⟨x1, qr_TWm x2 (fun d hd hd2 => (hL1 d).mpr ⟨hd, fun z => l2 (hd2.symm.trans z)⟩), qr_TWm x3 (fun d hd hd2 => (hL1 d).mpr ⟨hd, fun z => l2 (hd2.symm.trans z)⟩)⟩
    · by_cases e : qr_ow q = P
      · exact own0 q hq e
      · rw [(ownn q hq e).1, (ownn q hq e).2]
        exact hXN q hq (fun z => hn ((owth q hq e).mpr z))
    · by_cases e : qr_ow q = P
      · rw [(own0 q hq e).1, (own0 q hq e).2]
        rcases qr_pl hq with ⟨p, r, hp, hr, rfl⟩ | ⟨p, r, hp, hr, rfl⟩
        · rw [qr_owr hp hr] at e
          subst e
          rw [y1 _ (by omega) (by omega)]
          exact qr_TC00
        · rw [qr_owm hp hr] at e
          subst e
          rw [qr_thm hr, qn_us] at hn
          omega
      · rw [(ownn q hq e).1, (ownn q hq e).2]
        obtain ⟨g1, g2⟩ := y2 q (by
          rcases qr_pl hq with ⟨p, r, hp, hr, rfl⟩ | ⟨p, r, hp, hr, rfl⟩
          · rw [qr_owr hp hr] at e
            omega
          · omega)
        rw [g1, g2]
        exact hYP q hq ((owth q hq e).mp hn)
    · obtain ⟨l1, l2⟩ := (hL1 c).mp hc
      obtain ⟨g1, g2⟩ := y2 (21 + 2 * φ c) (by omega)
      obtain ⟨g3, g4⟩ := y2 (22 + 2 * φ c) (by omega)
      rw [g1, g2, g3, g4]
      exact hYC c l1
    · obtain ⟨l1, l2⟩ := (hL1 c).mp hc
      obtain ⟨f1, f2, f3⟩ := hF1 c l1
      refine ⟨f1, f2, ?_⟩
      rw [z2 (φ c) (by omega)]
      exact f3
    · exact hF2 c d ((hL1 c).mp hc).1 ((hL1 d).mp hd).1
    · by_cases e : y / 20 = P
      · exact Or.inl (z1 y (by omega) (by omega))
      · rw [z2 y (by omega)]
        rcases hF3 y hy with z | ⟨z, c, hc, ec⟩
        · exact Or.inl z
        · obtain ⟨f1, f2, f3⟩ := hF1 c hc
          exact Or.inr ⟨z, c, (hL1 c).mpr ⟨hc, by omega⟩, ec⟩
  · exact hX _ (br_t rfl (hY _ (br_f (by decide) ⟨rfl, I⟩)))
end
section
/-! X's collecting: the ghost list g of the moved cells, its number N, the new base b -/
def qk_T (b N : Nat) (g : Nat → Nat) (k x0 x : Int32) : Prop := (k = 2 → ∃ i, i < N ∧ x0 = nI (g i) ∧ x = nI (b + i)) ∧ (¬ k = 2 → x = x0)
def qk_G (Q : Nat → Prop) (b N : Nat) (g : Nat → Nat) (fw : Nat → Int32) : Prop :=
  (∀ i, i < N → Q (g i) ∧ fw (g i) = nI (b + i)) ∧ (∀ c, c < 120 → fw c = -1 ∨ ∃ i, i < N ∧ g i = c)
def qk_P (b N : Nat) (g : Nat → Nat) (pk pv0 : Nat → Int32) (S : Nat → Prop) (pv : Nat → Int32) : Prop :=
  ∀ j, j < 21 → (S j → qk_T b N g (pk j) (pv0 j) (pv j)) ∧ (¬ S j → pv j = pv0 j)
def qk_C (b N : Nat) (g : Nat → Nat) (hk0 hv0 tk0 tv0 : Nat → Int32) (sh st : Nat) (hk hv tk tv : Nat → Int32) : Prop :=
  (∀ c, ¬ (b ≤ c ∧ c < b + 20) → hk c = hk0 c ∧ hv c = hv0 c ∧ tk c = tk0 c ∧ tv c = tv0 c) ∧
  (∀ i, i < N → hk (b + i) = hk0 (g i) ∧ tk (b + i) = tk0 (g i) ∧ (i < sh → qk_T b N g (hk0 (g i)) (hv0 (g i)) (hv (b + i))) ∧ (¬ i < sh → hv (b + i) = hv0 (g i)) ∧
    (i < st → qk_T b N g (tk0 (g i)) (tv0 (g i)) (tv (b + i))) ∧ (¬ i < st → tv (b + i) = tv0 (g i)))
def qk_L (L0 : Nat → Bool) (b N : Nat) (fw : Nat → Int32) (c : Nat) : Bool := decide (b ≤ c ∧ c < b + N) || (L0 c && decide (fw c = -1))
def qk_I (L0 : Nat → Bool) (Q : Nat → Prop) (p b : Nat) (pk pv0 us0 hk0 hv0 tk0 tv0 ho : Nat → Int32) (N : Nat) (g : Nat → Nat) (S : Nat → Prop) (sh st : Nat) (pv us hk hv tk tv fw : Nat → Int32) : Prop :=
  (N ≤ 20 ∧ sh ≤ N ∧ st ≤ N) ∧ qk_G Q b N g fw ∧ qk_P b N g pk pv0 S pv ∧ qk_C b N g hk0 hv0 tk0 tv0 sh st hk hv tk tv ∧ (us p = nI N ∧ ∀ q, q ≠ p → us q = us0 q) ∧
  qh_N ho (qh_T (qk_L L0 b N fw) pk pv hk hv tk tv)
/-- what is fixed: Q lies in the old half and holds the roots and what is found from it -/
def qk_E (L0 : Nat → Bool) (Q : Nat → Prop) (p a b o M : Nat) (pk pv0 hk0 hv0 tk0 tv0 hf : Nat → Int32) : Prop :=
  (p < 3 ∧ M ≤ 20 ∧ b = 40 * p + 20 * a ∧ a ≤ 1 ∧ (o + 20 ≤ b ∨ b + 20 ≤ o) ∧ o + 20 ≤ 120 ∧ b + 20 ≤ 120 ∧ hf p = nI a) ∧
  (∀ c, Q c → o ≤ c ∧ c < o + M ∧ L0 c = true) ∧ (∀ c, b ≤ c → c < b + 20 → L0 c = false) ∧
  (∀ j, j < 21 → qr_ow j = p → pk j = 2 → ∃ d, pv0 j = nI d ∧ Q d) ∧
  (∀ c, Q c → hk0 c = 2 → ∃ d, hv0 c = nI d ∧ Q d) ∧ (∀ c, Q c → tk0 c = 2 → ∃ d, tv0 c = nI d ∧ Q d)
theorem qk_Tm {b N N' : Nat} {g g' : Nat → Nat} {k x0 x : Int32} (h : qk_T b N g k x0 x) (hN : N ≤ N') (hg : ∀ i, i < N → g' i = g i) : qk_T b N' g' k x0 x := by
  refine ⟨fun e => ?_, h.2⟩
  obtain ⟨i, h1, h2, h3⟩ := h.1 e
  refine ⟨i, by omega, ?_, h3⟩
  rw [hg i h1]
  exact h2
theorem qk_Li {L0 : Nat → Bool} {b N : Nat} {fw : Nat → Int32} {c : Nat} : qk_L L0 b N fw c = true ↔ ((b ≤ c ∧ c < b + N) ∨ (L0 c = true ∧ fw c = -1)) := by
  unfold qk_L
  rw [Bool.or_eq_true, Bool.and_eq_true, decide_eq_true_iff, decide_eq_true_iff]
/-- a cell's content goes to another cell -/
theorem qh_mv {L L' : Nat → Bool} {pk pv hk hv tk tv : Nat → Int32} {c t : Nat} (i : Nat) (hc : c < 120) (ht : t < 120) (hct : c ≠ t) (l1 : L c = true) (l2 : L t = false) (l3 : L' c = false) (l4 : L' t = true)
    (hne : ∀ d, d ≠ c → d ≠ t → L' d = L d) : qh_T L' pk pv (upd hk t (hk c)) (upd hv t (hv c)) (upd tk t (tk c)) (upd tv t (tv c)) i = qh_T L pk pv hk hv tk tv i := by
  have a := qs_one (f := fun d => if d = c then 0 else qh_f L hk hv tk tv i d) (g := qh_f L hk hv tk tv i) (k := c) (n := 120) hc (fun d _ hd => if_neg hd)
  have b := qs_one (f := qh_f L' (upd hk t (hk c)) (upd hv t (hv c)) (upd tk t (tk c)) (upd tv t (tv c)) i) (g := fun d => if d = c then 0 else qh_f L hk hv tk tv i d) (k := t) (n := 120) ht (fun d _ hd => by
    show _ = if d = c then 0 else qh_f L hk hv tk tv i d
    by_cases e : d = c
    · rw [if_pos e, e, qh_f0 l3]
    · rw [if_neg e]
      exact qh_fe (hne d e hd) (fun _ => ⟨pk_un hd, pk_un hd, pk_un hd, pk_un hd⟩))
  rw [if_pos rfl, qh_f1 l1] at a
  rw [if_neg hct.symm, qh_f0 l2, qh_f1 l4, pk_us, pk_us, pk_us, pk_us] at b
  unfold qh_T
  omega
theorem qh_Thv {L : Nat → Bool} {pk pv hk hv tk tv : Nat → Int32} {c : Nat} {x : Int32} (i : Nat) (h : hk c = 2) : qh_T L pk pv hk (upd hv c x) tk tv i = qh_T L pk pv hk hv tk tv i := by
  refine qh_Tc i (fun d _ => ?_)
  unfold qh_f
  by_cases e : d = c
  · rw [e, h, qh_e0 (k := 2) (by decide), qh_e0 (k := 2) (by decide)]
  · rw [pk_un e]
theorem qh_Ttv {L : Nat → Bool} {pk pv hk hv tk tv : Nat → Int32} {c : Nat} {x : Int32} (i : Nat) (h : tk c = 2) : qh_T L pk pv hk hv tk (upd tv c x) i = qh_T L pk pv hk hv tk tv i := by
  refine qh_Tc i (fun d _ => ?_)
  unfold qh_f
  by_cases e : d = c
  · rw [e, h, qh_e0 (k := 2) (by decide), qh_e0 (k := 2) (by decide)]
  · rw [pk_un e]
/-- room for one more -/
theorem qk_room {Q : Nat → Prop} {b N o M c : Nat} {g : Nat → Nat} {fw : Nat → Int32} (hQ : ∀ c, Q c → o ≤ c ∧ c < o + M) (hM : M ≤ 20) (hb : b + 20 ≤ 120) (hN : N ≤ 20) (hG : qk_G Q b N g fw) (hc : Q c) (hf : fw c = -1) : N + 1 ≤ M := by
  refine qs_php (fun i => qn_u g N c i - o) (fun i hi => ?_) (fun i j hi hj e => ?_)
  · show qn_u g N c i - o < M
    by_cases z : i = N
    · rw [z, qn_us]
      have := hQ c hc
      omega
    · rw [qn_un z]
      have := hQ _ (hG.1 i (by omega)).1
      omega
  · have e' : qn_u g N c i - o = qn_u g N c j - o := e
    have hc1 := hQ c hc
    by_cases z : i = N
    · by_cases y : j = N
      · omega
      · rw [z, qn_us, qn_un y] at e'
        obtain ⟨q1, q2⟩ := hG.1 j (by omega)
        have q3 := hQ _ q1
        rw [show g j = c by omega, hf] at q2
        exact absurd q2.symm (qn_neg (by omega))
    · by_cases y : j = N
      · rw [y, qn_us, qn_un z] at e'
        obtain ⟨q1, q2⟩ := hG.1 i (by omega)
        have q3 := hQ _ q1
        rw [show g i = c by omega, hf] at q2
        exact absurd q2.symm (qn_neg (by omega))
      · rw [qn_un z, qn_un y] at e'
        obtain ⟨q1, q2⟩ := hG.1 i (by omega)
        obtain ⟨r1, r2⟩ := hG.1 j (by omega)
        have q3 := hQ _ q1
        have r3 := hQ _ r1
        rw [show g i = g j by omega, r2] at q2
        have := qn_inj (by omega) (by omega) q2
        omega
theorem qk_inj {Q : Nat → Prop} {b N : Nat} {g : Nat → Nat} {fw : Nat → Int32} (hb : b + 20 ≤ 120) (hN : N ≤ 20) (hG : qk_G Q b N g fw) : ∀ i j, i < N → j < N → g i = g j → i = j := by
  intro i j hi hj e
  have a := (hG.1 i hi).2
  have c := (hG.1 j hj).2
  rw [e, c] at a
  have := qn_inj (by omega) (by omega) a
  omega
section
variable {fl : Int32} {pk pv wt hf us hk hv tk tv fw ho li pv0 us0 hk0 hv0 tk0 tv0 : Nat → Int32} {L0 : Nat → Bool} {Q : Nat → Prop} {p a b o M N sh st : Nat} {g : Nat → Nat} {S : Nat → Prop}
theorem qk_moved {c : Nat} (E : qk_E L0 Q p a b o M pk pv0 hk0 hv0 tk0 tv0 hf) (I : qk_I L0 Q p b pk pv0 us0 hk0 hv0 tk0 tv0 ho N g S sh st pv us hk hv tk tv fw) (hc : Q c) :
    ∃ (N' : Nat) (g' : Nat → Nat) (us' hk' hv' tk' tv' fw' : Nat → Int32) (i : Nat), qk_I L0 Q p b pk pv0 us0 hk0 hv0 tk0 tv0 ho N' g' S sh st pv us' hk' hv' tk' tv' fw' ∧ N ≤ N' ∧ i < N' ∧ g' i = c ∧ (∀ k, k < N → g' k = g k) ∧
      ∀ post : Int32 → SX → Prop, post (nI (b + i)) (fl, pk, pv, wt, hf, us', hk', hv', tk', tv', fw', ho, li) → wpX_moved post (fl, pk, pv, wt, hf, us, hk, hv, tk, tv, fw, ho, li) (nI c) (nI p) := by
  obtain ⟨⟨e1, e2, e3, e4, e5, e6, e7, e8⟩, hQ, hL0, _, _, _⟩ := E
  have I0 := I
  obtain ⟨⟨n1, n2, n3⟩, hG, hP, ⟨hC1, hC2⟩, ⟨hU1, hU2⟩, hH⟩ := I
  obtain ⟨q1, q2, q3⟩ := hQ c hc
  by_cases hf1 : fw c = -1
  · have hr := qk_room (fun c hc => ⟨(hQ c hc).1, (hQ c hc).2.1⟩) e2 e7 n1 hG hc hf1
    have hgc : ∀ i, i < N → g i ≠ c := fun i hi z => by
      have := (hG.1 i hi).2
      rw [z, hf1] at this
      exact absurd this.symm (qn_neg (by omega))
    have hgk : ∀ k, k < N → qn_u g N c k = g k := fun k hk => qn_un (by omega)
    refine ⟨N + 1, qn_u g N c, upd us p (nI (N + 1)), upd hk (b + N) (hk c), upd hv (b + N) (hv c), upd tk (b + N) (tk c), upd tv (b + N) (tv c), upd fw c (nI (b + N)), N,
      ⟨⟨by omega, by omega, by omega⟩, ⟨fun i hi => ?_, fun d hd => ?_⟩, fun j hj => ?_, ⟨fun d hd => ?_, fun i hi => ?_⟩, ⟨pk_us, fun q hq => ?_⟩, fun i hi => ?_⟩, by omega, by omega, qn_us, hgk, fun post h => ?_⟩
    · by_cases z : i = N
      · rw [z, qn_us]
        exact ⟨hc, pk_us⟩
      · rw [qn_un z, pk_un (hgc i (by omega))]
        exact hG.1 i (by omega)
    · by_cases z : d = c
      · exact Or.inr ⟨N, by omega, by rw [qn_us, z]⟩
      · rw [pk_un z]
        rcases hG.2 d hd with y | ⟨i, y1, y2⟩
        · exact Or.inl y
        · exact Or.inr ⟨i, by omega, by rw [hgk i y1, y2]⟩
    · obtain ⟨a1, a2⟩ := hP j hj
      exact ⟨fun s => qk_Tm (a1 s) (by omega) hgk, a2⟩
    · rw [pk_un (by omega), pk_un (by omega), pk_un (by omega), pk_un (by omega)]
      exact hC1 d hd
    · by_cases z : i = N
      · rw [z, qn_us, pk_us, pk_us, pk_us, pk_us]
        obtain ⟨c1, c2, c3, c4⟩ := hC1 c (by omega)
        exact ⟨c1, c3, fun y => by omega, fun _ => c2, fun y => by omega, fun _ => c4⟩
      · rw [hgk i (by omega), pk_un (by omega), pk_un (by omega), pk_un (by omega), pk_un (by omega)]
        obtain ⟨c1, c2, c3, c4, c5, c6⟩ := hC2 i (by omega)
        exact ⟨c1, c2, fun s => qk_Tm (c3 s) (by omega) hgk, c4, fun s => qk_Tm (c5 s) (by omega) hgk, c6⟩
    · rw [pk_un hq]
      exact hU2 q hq
    · rw [hH i hi]
      refine congrArg nI (qh_mv i (by omega) (by omega) (by omega) ?_ ?_ ?_ ?_ (fun d h1 h2 => ?_)).symm
      · exact qk_Li.mpr (Or.inr ⟨q3, hf1⟩)
      · refine Bool.eq_false_iff.mpr fun z => ?_
        rcases qk_Li.mp z with y | ⟨y, _⟩
        · omega
        · rw [hL0 _ (by omega) (by omega)] at y
          exact absurd y (by decide)
      · refine Bool.eq_false_iff.mpr fun z => ?_
        rcases qk_Li.mp z with y | ⟨_, y⟩
        · omega
        · rw [pk_us] at y
          exact absurd y (qn_neg (by omega))
      · exact qk_Li.mpr (Or.inl (by omega))
      · apply Bool.eq_iff_iff.mpr
        rw [qk_Li, qk_Li, pk_un h1]
        have : (b ≤ d ∧ d < b + (N + 1)) ↔ (b ≤ d ∧ d < b + N) := by omega
        rw [this]
    · exact qx_moved0 e1 (by omega) (by omega) (by omega) e8 hU1 hf1 h
  · rcases hG.2 c (by omega) with z | ⟨i, y1, y2⟩
    · exact absurd z hf1
    · have hfc := (hG.1 i y1).2
      rw [y2] at hfc
      exact ⟨N, g, us, hk, hv, tk, tv, fw, i, I0, Nat.le_refl N, y1, y2, fun k _ => rfl, fun post h => qx_moved1 (by omega) (by omega) hfc h⟩
theorem qk_PS {b N : Nat} {g : Nat → Nat} {pk pv0 pv : Nat → Int32} {S S' : Nat → Prop} (h : qk_P b N g pk pv0 S pv) (e : ∀ j, j < 21 → (S' j ↔ S j)) : qk_P b N g pk pv0 S' pv := fun j hj => by
  obtain ⟨a, c⟩ := h j hj
  exact ⟨fun z => a ((e j hj).mp z), fun z => c (fun y => z ((e j hj).mpr y))⟩
theorem qk_place {j : Nat} {S' : Nat → Prop} (E : qk_E L0 Q p a b o M pk pv0 hk0 hv0 tk0 tv0 hf) (I : qk_I L0 Q p b pk pv0 us0 hk0 hv0 tk0 tv0 ho N g S sh st pv us hk hv tk tv fw) (hj : j < 21) (ow : qr_ow j = p) (hS : ¬ S j)
    (hS' : ∀ q, q < 21 → (S' q ↔ (S q ∨ q = j))) :
    ∃ (N' : Nat) (g' : Nat → Nat) (pv' us' hk' hv' tk' tv' fw' : Nat → Int32), qk_I L0 Q p b pk pv0 us0 hk0 hv0 tk0 tv0 ho N' g' S' sh st pv' us' hk' hv' tk' tv' fw' ∧
      ∀ post : SX → Prop, post (fl, pk, pv', wt, hf, us', hk', hv', tk', tv', fw', ho, li) → wpX_movePlace post (fl, pk, pv, wt, hf, us, hk, hv, tk, tv, fw, ho, li) (nI j) (nI p) := by
  have hin : vp_in (nI j) 21 := vp_in_nI hj (by decide)
  have hn : (nI j).toNatClampNeg = j := qn_c (by omega)
  have ej : pv j = pv0 j := (I.2.2.1 j hj).2 hS
  by_cases e : pk j = 2
  · obtain ⟨d, hd1, hd2⟩ := E.2.2.2.1 j hj ow e
    obtain ⟨N', g', us', hk', hv', tk', tv', fw', i, ⟨I1, I2, I3, I4, I5, I6⟩, i1, i2, i3, i4, W⟩ := qk_moved (fl := fl) (wt := wt) (li := li) E I hd2
    refine ⟨N', g', upd pv j (nI (b + i)), us', hk', hv', tk', tv', fw', ⟨I1, I2, fun q hq => ?_, I4, I5, fun x hx => ?_⟩, fun post h => ?_⟩
    · by_cases z : q = j
      · subst z
        rw [pk_us]
        refine ⟨fun _ => ⟨fun _ => ⟨i, i2, ?_, rfl⟩, fun y => absurd e y⟩, fun y => absurd ((hS' q hj).mpr (Or.inr rfl)) y⟩
        rw [i3]
        exact hd1
      · rw [pk_un z]
        obtain ⟨a1, a2⟩ := I3 q hq
        exact ⟨fun y => a1 (((hS' q hq).mp y).elim id (fun y => absurd y z)), fun y => a2 (fun x => y ((hS' q hq).mpr (Or.inl x)))⟩
    · rw [I6 x hx]
      refine congrArg nI (qh_Tpv x (fun q _ h3 => ?_)).symm
      by_cases z : q = j
      · rw [z, e] at h3
        exact absurd h3 (by decide)
      · exact pk_un z
    · unfold wpX_movePlace
      dsimp only
      rw [hn, ej, hd1]
      exact ⟨hin, br_t e ⟨hin, W _ ⟨hin, nm_e h⟩⟩⟩
  · obtain ⟨I1, I2, I3, I4, I5, I6⟩ := I
    refine ⟨N, g, pv, us, hk, hv, tk, tv, fw, ⟨I1, I2, fun q hq => ?_, I4, I5, I6⟩, fun post h => ?_⟩
    · by_cases z : q = j
      · subst z
        exact ⟨fun _ => ⟨fun y => absurd y e, fun _ => ej⟩, fun _ => ej⟩
      · obtain ⟨a1, a2⟩ := I3 q hq
        exact ⟨fun y => a1 (((hS' q hq).mp y).elim id (fun y => absurd y z)), fun y => a2 (fun x => y ((hS' q hq).mpr (Or.inl x)))⟩
    · unfold wpX_movePlace
      dsimp only
      rw [hn]
      exact ⟨hin, br_f e h⟩
end
end
section
/-! collectHeap's loops -/
section
variable {fl : Int32} {pk wt hf ho li pv0 us0 hk0 hv0 tk0 tv0 : Nat → Int32} {L0 : Nat → Bool} {Q : Nat → Prop} {p a b o M : Nat}
theorem qk_loop48 {x2 x3 : Int32} (E : qk_E L0 Q p a b o M pk pv0 hk0 hv0 tk0 tv0 hf) : ∀ (d r N : Nat) (g : Nat → Nat) (pv us hk hv tk tv fw : Nat → Int32), r + d = 4 →
    qk_I L0 Q p b pk pv0 us0 hk0 hv0 tk0 tv0 ho N g (fun q => 4 * p ≤ q ∧ q < 4 * p + r) 0 0 pv us hk hv tk tv fw →
    ∃ (N' : Nat) (g' : Nat → Nat) (pv' us' hk' hv' tk' tv' fw' : Nat → Int32), qk_I L0 Q p b pk pv0 us0 hk0 hv0 tk0 tv0 ho N' g' (fun q => 4 * p ≤ q ∧ q < 4 * p + 4) 0 0 pv' us' hk' hv' tk' tv' fw' ∧
      ∀ (post : SX → Prop) (n : Nat), d < n → (∃ n74, wX_collectHeap_74 post (nI p) x2 x3 n74 0 fl pk pv' wt hf us' hk' hv' tk' tv' fw' ho li) → wX_collectHeap_48 post (nI p) x2 x3 n (nI r) fl pk pv wt hf us hk hv tk tv fw ho li := by
  have hp : p < 3 := E.1.1
  intro d
  induction d with
  | zero =>
    intro r N g pv us hk hv tk tv fw hr I
    have e : r = 4 := by omega
    subst e
    refine ⟨N, g, pv, us, hk, hv, tk, tv, fw, I, fun post n hn h => ?_⟩
    cases n with
    | zero => omega
    | succ n => exact br_t (by decide) h
  | succ d ih =>
    intro r N g pv us hk hv tk tv fw hr I
    obtain ⟨N1, g1, pv1, us1, hk1, hv1, tk1, tv1, fw1, I1, W1⟩ := qk_place (fl := fl) (wt := wt) (li := li) (j := 4 * p + r) (S' := fun q => 4 * p ≤ q ∧ q < 4 * p + (r + 1)) E I (by omega) (qr_owr hp (by omega))
      (show ¬ (4 * p ≤ 4 * p + r ∧ 4 * p + r < 4 * p + r) by omega) (fun q hq => by
        show (4 * p ≤ q ∧ q < 4 * p + (r + 1)) ↔ ((4 * p ≤ q ∧ q < 4 * p + r) ∨ q = 4 * p + r)
        omega)
    obtain ⟨N2, g2, pv2, us2, hk2, hv2, tk2, tv2, fw2, I2, W2⟩ := ih (r + 1) N1 g1 pv1 us1 hk1 hv1 tk1 tv1 fw1 (by omega) I1
    refine ⟨N2, g2, pv2, us2, hk2, hv2, tk2, tv2, fw2, I2, fun post n hn h => ?_⟩
    cases n with
    | zero => omega
    | succ n =>
      have z := W2 post n (by omega) h
      unfold wX_collectHeap_48
      rw [qn_reg, nI_1]
      exact br_f (nI_ge (b := 4) (by omega) (by decide)) (W1 _ (nm_e z))
theorem qk_loop74 {x2 x3 : Int32} (E : qk_E L0 Q p a b o M pk pv0 hk0 hv0 tk0 tv0 hf) : ∀ (d r N : Nat) (g : Nat → Nat) (pv us hk hv tk tv fw : Nat → Int32), r + d = 3 →
    qk_I L0 Q p b pk pv0 us0 hk0 hv0 tk0 tv0 ho N g (fun q => (4 * p ≤ q ∧ q < 4 * p + 4) ∨ (12 + 3 * p ≤ q ∧ q < 12 + 3 * p + r)) 0 0 pv us hk hv tk tv fw →
    ∃ (N' : Nat) (g' : Nat → Nat) (pv' us' hk' hv' tk' tv' fw' : Nat → Int32), qk_I L0 Q p b pk pv0 us0 hk0 hv0 tk0 tv0 ho N' g' (fun q => qr_ow q = p) 0 0 pv' us' hk' hv' tk' tv' fw' ∧
      ∀ (post : SX → Prop) (n : Nat), d < n → (∃ n120, wX_collectHeap_120 post (nI p) x2 x3 (nI b) n120 (nI b) fl pk pv' wt hf us' hk' hv' tk' tv' fw' ho li) → wX_collectHeap_74 post (nI p) x2 x3 n (nI r) fl pk pv wt hf us hk hv tk tv fw ho li := by
  obtain ⟨hp, e2, e3, e4, e5, e6, e7, e8⟩ := E.1
  intro d
  induction d with
  | zero =>
    intro r N g pv us hk hv tk tv fw hr I
    have e : r = 3 := by omega
    subst e
    obtain ⟨I1, I2, I3, I4⟩ := I
    refine ⟨N, g, pv, us, hk, hv, tk, tv, fw, ⟨I1, I2, qk_PS I3 (fun q hq => ?_), I4⟩, fun post n hn h => ?_⟩
    · show qr_ow q = p ↔ ((4 * p ≤ q ∧ q < 4 * p + 4) ∨ (12 + 3 * p ≤ q ∧ q < 12 + 3 * p + 3))
      rcases qr_pl hq with ⟨p', r, hp', hr, rfl⟩ | ⟨p', r, hp', hr, rfl⟩
      · rw [qr_owr hp' hr]
        omega
      · rw [qr_owm hp' hr]
        omega
    · cases n with
      | zero => omega
      | succ n =>
        unfold wX_collectHeap_74
        rw [qn_c (a := p) (by omega), e8, qn_base, ← e3]
        exact br_t (by decide) ⟨vp_in_nI hp (by decide), nm_e h⟩
  | succ d ih =>
    intro r N g pv us hk hv tk tv fw hr I
    obtain ⟨N1, g1, pv1, us1, hk1, hv1, tk1, tv1, fw1, I1, W1⟩ := qk_place (fl := fl) (wt := wt) (li := li) (j := 12 + 3 * p + r) (S' := fun q => (4 * p ≤ q ∧ q < 4 * p + 4) ∨ (12 + 3 * p ≤ q ∧ q < 12 + 3 * p + (r + 1))) E I (by omega) (qr_owm hp (by omega))
      (show ¬ ((4 * p ≤ 12 + 3 * p + r ∧ 12 + 3 * p + r < 4 * p + 4) ∨ (12 + 3 * p ≤ 12 + 3 * p + r ∧ 12 + 3 * p + r < 12 + 3 * p + r)) by omega) (fun q hq => by
        show ((4 * p ≤ q ∧ q < 4 * p + 4) ∨ (12 + 3 * p ≤ q ∧ q < 12 + 3 * p + (r + 1))) ↔ (((4 * p ≤ q ∧ q < 4 * p + 4) ∨ (12 + 3 * p ≤ q ∧ q < 12 + 3 * p + r)) ∨ q = 12 + 3 * p + r)
        omega)
    obtain ⟨N2, g2, pv2, us2, hk2, hv2, tk2, tv2, fw2, I2, W2⟩ := ih (r + 1) N1 g1 pv1 us1 hk1 hv1 tk1 tv1 fw1 (by omega) I1
    refine ⟨N2, g2, pv2, us2, hk2, hv2, tk2, tv2, fw2, I2, fun post n hn h => ?_⟩
    cases n with
    | zero => omega
    | succ n =>
      have z := W2 post n (by omega) h
      unfold wX_collectHeap_74
      rw [qn_mail, nI_1]
      exact br_f (nI_ge (b := 3) (by omega) (by decide)) (W1 _ (nm_e z))
/-- one cell is scanned: its head -/
theorem qk_head {S : Nat → Prop} {s N : Nat} {g : Nat → Nat} {pv us hk hv tk tv fw : Nat → Int32} (E : qk_E L0 Q p a b o M pk pv0 hk0 hv0 tk0 tv0 hf) (hs : s < N)
    (I : qk_I L0 Q p b pk pv0 us0 hk0 hv0 tk0 tv0 ho N g S s s pv us hk hv tk tv fw) :
    ∃ (N' : Nat) (g' : Nat → Nat) (us' hk' hv' tk' tv' fw' : Nat → Int32), qk_I L0 Q p b pk pv0 us0 hk0 hv0 tk0 tv0 ho N' g' S (s + 1) s pv us' hk' hv' tk' tv' fw' ∧ s < N' ∧
      ((hk (b + s) = 2 ∧ ∃ (r : Int32) (hv1 : Nat → Int32), hv' = upd hv1 (b + s) r ∧ ∀ post : Int32 → SX → Prop, post r (fl, pk, pv, wt, hf, us', hk', hv1, tk', tv', fw', ho, li) →
        wpX_moved post (fl, pk, pv, wt, hf, us, hk, hv, tk, tv, fw, ho, li) (hv (b + s)) (nI p)) ∨ (¬ hk (b + s) = 2 ∧ us' = us ∧ hk' = hk ∧ hv' = hv ∧ tk' = tk ∧ tv' = tv ∧ fw' = fw)) := by
  obtain ⟨⟨n1, n2, n3⟩, hG, hP, ⟨hC1, hC2⟩, hU, hH⟩ := I
  obtain ⟨c1, c2, c3, c4, c5, c6⟩ := hC2 s hs
  have ehv := c4 (by omega)
  have hb := E.1.2.2.2.2.2.2.1
  by_cases e : hk (b + s) = 2
  · have hQ := (hG.1 s hs).1
    obtain ⟨d, hd1, hd2⟩ := E.2.2.2.2.1 (g s) hQ (c1.symm.trans e)
    obtain ⟨N', g', us', hk', hv', tk', tv', fw', i, ⟨⟨m1, m2, m3⟩, I2, I3, ⟨I41, I42⟩, I5, I6⟩, i1, i2, i3, i4, W⟩ := qk_moved (fl := fl) (wt := wt) (li := li) E ⟨⟨n1, n2, n3⟩, hG, hP, ⟨hC1, hC2⟩, hU, hH⟩ hd2
    have ehk : hk' (b + s) = 2 := by rw [(I42 s (by omega)).1, i4 s hs, ← c1, e]
    refine ⟨N', g', us', hk', upd hv' (b + s) (nI (b + i)), tk', tv', fw', ⟨⟨m1, by omega, m3⟩, I2, I3, ⟨fun c hc => ?_, fun q hq => ?_⟩, I5, fun x hx => ?_⟩, by omega, Or.inl ⟨e, nI (b + i), hv', rfl, fun post h => ?_⟩⟩
    · rw [pk_un (by omega)]
      exact I41 c hc
    · obtain ⟨f1, f2, f3, f4, f5, f6⟩ := I42 q hq
      by_cases z : q = s
      · subst z
        rw [pk_us]
        refine ⟨f1, f2, fun _ => ⟨fun _ => ⟨i, i2, ?_, rfl⟩, fun y => ?_⟩, fun y => absurd (Nat.lt_succ_self q) y, f5, f6⟩
        · rw [i4 q hs, i3]
          exact hd1
        · rw [f1] at ehk
          exact absurd ehk y
      · rw [pk_un (by omega)]
        exact ⟨f1, f2, fun y => f3 (by omega), fun y => f4 (by omega), f5, f6⟩
    · rw [I6 x hx, qh_Thv x ehk]
    · rw [ehv, hd1]
      exact W _ h
  · refine ⟨N, g, us, hk, hv, tk, tv, fw, ⟨⟨n1, by omega, n3⟩, hG, hP, ⟨hC1, fun q hq => ?_⟩, hU, hH⟩, hs, Or.inr ⟨e, rfl, rfl, rfl, rfl, rfl, rfl⟩⟩
    obtain ⟨f1, f2, f3, f4, f5, f6⟩ := hC2 q hq
    by_cases z : q = s
    · subst z
      refine ⟨f1, f2, fun _ => ⟨fun y => ?_, fun _ => ehv⟩, fun y => absurd (Nat.lt_succ_self q) y, f5, f6⟩
      rw [← f1] at y
      exact absurd y e
    · exact ⟨f1, f2, fun y => f3 (by omega), fun y => f4 (by omega), f5, f6⟩
theorem qk_tail {S : Nat → Prop} {s N : Nat} {g : Nat → Nat} {pv us hk hv tk tv fw : Nat → Int32} (E : qk_E L0 Q p a b o M pk pv0 hk0 hv0 tk0 tv0 hf) (hs : s < N)
    (I : qk_I L0 Q p b pk pv0 us0 hk0 hv0 tk0 tv0 ho N g S (s + 1) s pv us hk hv tk tv fw) :
    ∃ (N' : Nat) (g' : Nat → Nat) (us' hk' hv' tk' tv' fw' : Nat → Int32), qk_I L0 Q p b pk pv0 us0 hk0 hv0 tk0 tv0 ho N' g' S (s + 1) (s + 1) pv us' hk' hv' tk' tv' fw' ∧ s < N' ∧
      ((tk (b + s) = 2 ∧ ∃ (r : Int32) (tv1 : Nat → Int32), tv' = upd tv1 (b + s) r ∧ ∀ post : Int32 → SX → Prop, post r (fl, pk, pv, wt, hf, us', hk', hv', tk', tv1, fw', ho, li) →
        wpX_moved post (fl, pk, pv, wt, hf, us, hk, hv, tk, tv, fw, ho, li) (tv (b + s)) (nI p)) ∨ (¬ tk (b + s) = 2 ∧ us' = us ∧ hk' = hk ∧ hv' = hv ∧ tk' = tk ∧ tv' = tv ∧ fw' = fw)) := by
  obtain ⟨⟨n1, n2, n3⟩, hG, hP, ⟨hC1, hC2⟩, hU, hH⟩ := I
  obtain ⟨c1, c2, c3, c4, c5, c6⟩ := hC2 s hs
  have ehv := c6 (by omega)
  have hb := E.1.2.2.2.2.2.2.1
  by_cases e : tk (b + s) = 2
  · have hQ := (hG.1 s hs).1
    obtain ⟨d, hd1, hd2⟩ := E.2.2.2.2.2 (g s) hQ (c2.symm.trans e)
    obtain ⟨N', g', us', hk', hv', tk', tv', fw', i, ⟨⟨m1, m2, m3⟩, I2, I3, ⟨I41, I42⟩, I5, I6⟩, i1, i2, i3, i4, W⟩ := qk_moved (fl := fl) (wt := wt) (li := li) E ⟨⟨n1, n2, n3⟩, hG, hP, ⟨hC1, hC2⟩, hU, hH⟩ hd2
    have ehk : tk' (b + s) = 2 := by rw [(I42 s (by omega)).2.1, i4 s hs, ← c2, e]
    refine ⟨N', g', us', hk', hv', tk', upd tv' (b + s) (nI (b + i)), fw', ⟨⟨m1, m2, by omega⟩, I2, I3, ⟨fun c hc => ?_, fun q hq => ?_⟩, I5, fun x hx => ?_⟩, by omega, Or.inl ⟨e, nI (b + i), tv', rfl, fun post h => ?_⟩⟩
    · rw [pk_un (by omega)]
      exact I41 c hc
    · obtain ⟨f1, f2, f3, f4, f5, f6⟩ := I42 q hq
      by_cases z : q = s
      · subst z
        rw [pk_us]
        refine ⟨f1, f2, f3, f4, fun _ => ⟨fun _ => ⟨i, i2, ?_, rfl⟩, fun y => ?_⟩, fun y => absurd (Nat.lt_succ_self q) y⟩
        · rw [i4 q hs, i3]
          exact hd1
        · rw [f2] at ehk
          exact absurd ehk y
      · rw [pk_un (by omega)]
        exact ⟨f1, f2, f3, f4, fun y => f5 (by omega), fun y => f6 (by omega)⟩
    · rw [I6 x hx, qh_Ttv x ehk]
    · rw [ehv, hd1]
      exact W _ h
  · refine ⟨N, g, us, hk, hv, tk, tv, fw, ⟨⟨n1, n2, by omega⟩, hG, hP, ⟨hC1, fun q hq => ?_⟩, hU, hH⟩, hs, Or.inr ⟨e, rfl, rfl, rfl, rfl, rfl, rfl⟩⟩
    obtain ⟨f1, f2, f3, f4, f5, f6⟩ := hC2 q hq
    by_cases z : q = s
    · subst z
      refine ⟨f1, f2, f3, f4, fun _ => ⟨fun y => ?_, fun _ => ehv⟩, fun y => absurd (Nat.lt_succ_self q) y⟩
      rw [← f2] at y
      exact absurd y e
    · exact ⟨f1, f2, f3, f4, fun y => f5 (by omega), fun y => f6 (by omega)⟩
theorem qk_loop120 {S : Nat → Prop} {x2 x3 : Int32} (E : qk_E L0 Q p a b o M pk pv0 hk0 hv0 tk0 tv0 hf) : ∀ (d s N : Nat) (g : Nat → Nat) (pv us hk hv tk tv fw : Nat → Int32), s + d = 20 →
    qk_I L0 Q p b pk pv0 us0 hk0 hv0 tk0 tv0 ho N g S s s pv us hk hv tk tv fw →
    ∃ (N' : Nat) (g' : Nat → Nat) (us' hk' hv' tk' tv' fw' : Nat → Int32), qk_I L0 Q p b pk pv0 us0 hk0 hv0 tk0 tv0 ho N' g' S N' N' pv us' hk' hv' tk' tv' fw' ∧
      ∀ (post : SX → Prop) (n : Nat), d < n → wX_collectHeap_210 post x2 x3 fl pk pv wt hf us' hk' hv' tk' tv' fw' ho li → wX_collectHeap_120 post (nI p) x2 x3 (nI b) n (nI (b + s)) fl pk pv wt hf us hk hv tk tv fw ho li := by
  obtain ⟨hp, e2, e3, e4, e5, e6, e7, e8⟩ := E.1
  have hin : vp_in (nI p) 3 := vp_in_nI hp (by decide)
  have hcp : (nI p).toNatClampNeg = p := qn_c (by omega)
  have stop : ∀ (s N : Nat) (g : Nat → Nat) (pv us hk hv tk tv fw : Nat → Int32), ¬ s < N → qk_I L0 Q p b pk pv0 us0 hk0 hv0 tk0 tv0 ho N g S s s pv us hk hv tk tv fw → s = N ∧
      ∀ (post : SX → Prop) (n : Nat), 0 < n → wX_collectHeap_210 post x2 x3 fl pk pv wt hf us hk hv tk tv fw ho li → wX_collectHeap_120 post (nI p) x2 x3 (nI b) n (nI (b + s)) fl pk pv wt hf us hk hv tk tv fw ho li := by
    intro s N g pv us hk hv tk tv fw hs I
    obtain ⟨⟨n1, n2, n3⟩, _, _, _, ⟨hU, _⟩, _⟩ := I
    have e : s = N := by omega
    refine ⟨e, fun post n hn h => ?_⟩
    cases n with
    | zero => omega
    | succ n =>
      unfold wX_collectHeap_120
      rw [hcp, hU, nI_add]
      exact ⟨hin, br_t (nI_le (by omega) (by omega)) h⟩
  intro d
  induction d with
  | zero =>
    intro s N g pv us hk hv tk tv fw hs I
    have n1 := I.1
    obtain ⟨e, W⟩ := stop s N g pv us hk hv tk tv fw (by omega) I
    rw [e] at I
    exact ⟨N, g, us, hk, hv, tk, tv, fw, I, fun post n hn h => W post n (by omega) h⟩
  | succ d ih =>
    intro s N g pv us hk hv tk tv fw hs I
    by_cases hsN : s < N
    · obtain ⟨N1, g1, us1, hk1, hv1, tk1, tv1, fw1, I1, l1, W1⟩ := qk_head (fl := fl) (wt := wt) (li := li) E hsN I
      obtain ⟨N2, g2, us2, hk2, hv2, tk2, tv2, fw2, I2, l2, W2⟩ := qk_tail (fl := fl) (wt := wt) (li := li) E l1 I1
      obtain ⟨N3, g3, us3, hk3, hv3, tk3, tv3, fw3, I3, W3⟩ := ih (s + 1) N2 g2 pv us2 hk2 hv2 tk2 tv2 fw2 (by omega) I2
      refine ⟨N3, g3, us3, hk3, hv3, tk3, tv3, fw3, I3, fun post n hn h => ?_⟩
      cases n with
      | zero => omega
      | succ n =>
        have z := W3 post n (by omega) h
        have hx : vp_in (nI (b + s)) 120 := vp_in_nI (by omega) (by decide)
        have hcx : (nI (b + s)).toNatClampNeg = b + s := qn_c (by omega)
        have hN := I.1
        unfold wX_collectHeap_120 wX_collectHeap_174
        rw [hcp, I.2.2.2.2.1.1, nI_add, show nI b + 20 = nI (b + 20) from nI_add b 20, hcx, nI_1]
        refine ⟨hin, br_f (nI_ge (by omega) (by omega)) (br_f (nI_ge (by omega) (by omega)) ⟨hx, ?_⟩)⟩
        rcases W1 with ⟨e1, r, hv9, rfl, W1⟩ | ⟨e1, rfl, rfl, rfl, rfl, rfl, rfl⟩
        · refine br_t e1 ⟨hx, W1 _ ⟨hx, nm_e ⟨hx, ?_⟩⟩⟩
          rcases W2 with ⟨e2, r2, tv9, rfl, W2⟩ | ⟨e2, rfl, rfl, rfl, rfl, rfl, rfl⟩
          · exact br_t e2 ⟨hx, W2 _ ⟨hx, nm_e (nm_e z)⟩⟩
          · exact br_f e2 (nm_e z)
        · refine br_f e1 ⟨hx, ?_⟩
          rcases W2 with ⟨e2, r2, tv9, rfl, W2⟩ | ⟨e2, rfl, rfl, rfl, rfl, rfl, rfl⟩
          · exact br_t e2 ⟨hx, W2 _ ⟨hx, nm_e (nm_e z)⟩⟩
          · exact br_f e2 (nm_e z)
    · obtain ⟨e, W⟩ := stop s N g pv us hk hv tk tv fw hsN I
      rw [e] at I
      exact ⟨N, g, us, hk, hv, tk, tv, fw, I, fun post n hn h => by rw [e] at W; rw [e]; exact W post n (by omega) h⟩
end
end
section
/-! sweepOld, and collectHeap as a whole -/
theorem qk_sweep {fl : Int32} {pk pv wt hf us hk hv tk tv li : Nat → Int32} {L' : Nat → Bool} {o M : Nat} (ho120 : o + M ≤ 120) (hB : ∀ c, o ≤ c → c < o + M → qh_B (hk c) (hv c) ∧ qh_B (tk c) (tv c)) :
    ∀ (d i : Nat) (fw ho : Nat → Int32) (L : Nat → Bool), i + d = M → (∀ c, o + i ≤ c → c < o + M → (fw c = -1 ∧ L c = true) ∨ (∃ t, t < 120 ∧ fw c = nI t ∧ L c = false)) →
    (∀ c, c < 120 → ¬ (o + i ≤ c ∧ c < o + M) → fw c = -1) → (∀ c, o + i ≤ c → c < o + M → L' c = false) → (∀ c, ¬ (o + i ≤ c ∧ c < o + M) → L' c = L c) → qh_N ho (qh_T L pk pv hk hv tk tv) →
    ∃ fw' ho' : Nat → Int32, (∀ c, c < 120 → fw' c = -1) ∧ qh_N ho' (qh_T L' pk pv hk hv tk tv) ∧ ∀ (post : SX → Prop) (n : Nat), d < n → post (fl, pk, pv, wt, hf, us, hk, hv, tk, tv, fw', ho', li) →
      wX_sweepOld_2 post (nI (o + M)) n (nI (o + i)) fl pk pv wt hf us hk hv tk tv fw ho li := by
  intro d
  induction d with
  | zero =>
    intro i fw ho L hi _ h2 _ h4 hH
    have eL : L' = L := funext fun c => h4 c (by omega)
    refine ⟨fw, ho, fun c hc => h2 c hc (by omega), by rw [eL]; exact hH, fun post n hn h => ?_⟩
    cases n with
    | zero => omega
    | succ n => exact br_t (nI_le (by omega) (by omega)) h
  | succ d ih =>
    intro i fw ho L hi h1 h2 h3 h4 hH
    have hic : vp_in (nI (o + i)) 120 := vp_in_nI (by omega) (by decide)
    have hcc : (nI (o + i)).toNatClampNeg = o + i := qn_c (by omega)
    have hge : ¬ nI (o + M) ≤ nI (o + i) := nI_ge (by omega) (by omega)
    have hfw : ∀ c, c < 120 → ¬ (o + (i + 1) ≤ c ∧ c < o + M) → upd fw (o + i) (-1) c = -1 := fun c hc hn => by
      by_cases e : c = o + i
      · rw [e, pk_us]
      · rw [pk_un e]
        exact h2 c hc (by omega)
    rcases h1 (o + i) (by omega) (by omega) with ⟨f1, l1⟩ | ⟨t, t1, t2, t3⟩
    · obtain ⟨b1, b2⟩ := hB (o + i) (by omega) (by omega)
      obtain ⟨fw', ho', g1, g2, W⟩ := ih (i + 1) (upd fw (o + i) (-1)) _ (fun c => if c = o + i then false else L c) (by omega) (fun c c1 c2 => by
        show (upd fw (o + i) (-1) c = -1 ∧ (if c = o + i then false else L c) = true) ∨ (∃ t, t < 120 ∧ upd fw (o + i) (-1) c = nI t ∧ (if c = o + i then false else L c) = false)
        rw [if_neg (by omega), pk_un (by omega)]
        exact h1 c (by omega) c2) hfw (fun c c1 c2 => h3 c (by omega) c2) (fun c hc => by
        show L' c = if c = o + i then false else L c
        by_cases e : c = o + i
        · rw [if_pos e, e, h3 (o + i) (by omega) (by omega)]
        · rw [if_neg e]
          exact h4 c (by omega)) (qh_cdn (c := o + i) hH (by omega) l1 (if_pos rfl) (fun d hd => if_neg hd) b1 b2)
      refine ⟨fw', ho', g1, g2, fun post n hn h => ?_⟩
      cases n with
      | zero => omega
      | succ n =>
        have z := W post n (by omega) h
        unfold wX_sweepOld_2
        rw [hcc, f1, nI_1]
        exact br_f hge ⟨hic, br_f qn_m1 ⟨hic, hic, qx_letGo b1 ⟨hic, hic, qx_letGo b2 ⟨hic, nm_e (nm_e z)⟩⟩⟩⟩
    · obtain ⟨fw', ho', g1, g2, W⟩ := ih (i + 1) (upd fw (o + i) (-1)) ho L (by omega) (fun c c1 c2 => by
        rw [pk_un (by omega)]
        exact h1 c (by omega) c2) hfw (fun c c1 c2 => h3 c (by omega) c2) (fun c hc => by
        by_cases e : c = o + i
        · rw [e, t3, h3 (o + i) (by omega) (by omega)]
        · exact h4 c (by omega)) hH
      refine ⟨fw', ho', g1, g2, fun post n hn h => ?_⟩
      cases n with
      | zero => omega
      | succ n =>
        have z := W post n (by omega) h
        unfold wX_sweepOld_2
        rw [hcc, t2, nI_1]
        exact br_f hge ⟨hic, br_t (nI_pos' (by omega)) ⟨hic, nm_e (nm_e z)⟩⟩
theorem qk_coll {fl : Int32} {pk pv wt hf us hk hv tk tv fw ho li ml : Nat → Int32} {m h w : Nat → Nat} {p : Nat} {Q : Nat → Prop} (hD : qr_D m h w wt hf us ml) (hXC : qr_XC (qr_L m h) hk hv tk tv)
    (hF : ∀ c, c < 120 → fw c = -1) (hH : qh_N ho (qh_T (qr_L m h) pk pv hk hv tk tv)) (hp : p < 3) (hQ : ∀ c, Q c → qr_L m h c = true ∧ c / 40 = p)
    (hQr : ∀ j, j < 21 → qr_ow j = p → pk j = 2 → ∃ d, pv j = nI d ∧ Q d) (hQh : ∀ c, Q c → hk c = 2 → ∃ d, hv c = nI d ∧ Q d) (hQt : ∀ c, Q c → tk c = 2 → ∃ d, tv c = nI d ∧ Q d) :
    ∃ (N : Nat) (g : Nat → Nat) (pv' us' hk' hv' tk' tv' fw' ho' : Nat → Int32), N ≤ 20 ∧ (∀ i, i < N → Q (g i)) ∧ (∀ i j, i < N → j < N → g i = g j → i = j) ∧
      (∀ j, j < 21 → (qr_ow j = p → qk_T (40 * p + 20 * (1 - h p)) N g (pk j) (pv j) (pv' j)) ∧ (¬ qr_ow j = p → pv' j = pv j)) ∧
      qk_C (40 * p + 20 * (1 - h p)) N g hk hv tk tv N N hk' hv' tk' tv' ∧ (us' p = nI N ∧ ∀ q, q ≠ p → us' q = us q) ∧ (∀ c, c < 120 → fw' c = -1) ∧
      qh_N ho' (qh_T (qr_L (qn_u m p N) (qn_u h p (1 - h p))) pk pv' hk' hv' tk' tv') ∧
      ∀ post : SX → Prop, post (fl, pk, pv', wt, upd hf p (nI (1 - h p)), us', hk', hv', tk', tv', fw', ho', li) → wpX_collectHeap post (fl, pk, pv, wt, hf, us, hk, hv, tk, tv, fw, ho, li) (nI p) := by
  obtain ⟨d1, d2, d3, d4, d5, d6, d7⟩ := hD p hp
  have hLp : ∀ c, qr_L m h c = true → c / 40 = p → 40 * p + 20 * h p ≤ c ∧ c < 40 * p + 20 * h p + m p := fun c hc e => by
    have := qr_Li.mp hc
    rw [e] at this
    omega
  have hL0 : ∀ c, 40 * p + 20 * (1 - h p) ≤ c → c < 40 * p + 20 * (1 - h p) + 20 → qr_L m h c = false := fun c c1 c2 => by
    refine Bool.eq_false_iff.mpr fun z => ?_
    have := hLp c z (by omega)
    omega
  have E : qk_E (qr_L m h) Q p (1 - h p) (40 * p + 20 * (1 - h p)) (40 * p + 20 * h p) (m p) pk pv hk hv tk tv (upd hf p (nI (1 - h p))) := by
    refine ⟨⟨hp, d1, rfl, by omega, by omega, by omega, by omega, pk_us⟩, fun c hc => ?_, hL0, hQr, hQh, hQt⟩
    obtain ⟨q1, q2⟩ := hQ c hc
    have := hLp c q1 q2
    exact ⟨this.1, this.2, q1⟩
  have eL : qk_L (qr_L m h) (40 * p + 20 * (1 - h p)) 0 fw = qr_L m h := by
    funext c
    apply Bool.eq_iff_iff.mpr
    rw [qk_Li]
    constructor
    · rintro (z | z)
      · omega
      · exact z.1
    · intro z
      exact Or.inr ⟨z, hF c (qr_Li.mp z).1⟩
  have I0 : qk_I (qr_L m h) Q p (40 * p + 20 * (1 - h p)) pk pv us hk hv tk tv ho 0 (fun _ => 0) (fun q => 4 * p ≤ q ∧ q < 4 * p + 0) 0 0 pv (upd us p 0) hk hv tk tv fw := by
    refine ⟨⟨by omega, by omega, by omega⟩, ⟨fun i hi => by omega, fun c hc => Or.inl (hF c hc)⟩, fun j hj => ⟨fun z => ?_, fun _ => rfl⟩, ⟨fun c _ => ⟨rfl, rfl, rfl, rfl⟩, fun i hi => by omega⟩, ⟨pk_us, fun q hq => pk_un hq⟩, ?_⟩
    · have z' : 4 * p ≤ j ∧ j < 4 * p + 0 := z
      omega
    · rw [eL]
      exact hH
  obtain ⟨N1, g1, pv1, us1, hk1, hv1, tk1, tv1, fw1, I1, W1⟩ := qk_loop48 (fl := fl) (wt := wt) (li := li) (x2 := nI (40 * p + 20 * h p)) (x3 := nI (40 * p + 20 * h p + m p)) E 4 0 0 _ pv (upd us p 0) hk hv tk tv fw rfl I0
  obtain ⟨A1, A2, A3, A4⟩ := I1
  obtain ⟨N2, g2, pv2, us2, hk2, hv2, tk2, tv2, fw2, I2, W2⟩ := qk_loop74 (fl := fl) (wt := wt) (li := li) (x2 := nI (40 * p + 20 * h p)) (x3 := nI (40 * p + 20 * h p + m p)) E 3 0 N1 g1 pv1 us1 hk1 hv1 tk1 tv1 fw1 rfl
    ⟨A1, A2, qk_PS A3 (fun q hq => by
      show ((4 * p ≤ q ∧ q < 4 * p + 4) ∨ (12 + 3 * p ≤ q ∧ q < 12 + 3 * p + 0)) ↔ (4 * p ≤ q ∧ q < 4 * p + 4)
      omega), A4⟩
  obtain ⟨N, g, us3, hk3, hv3, tk3, tv3, fw3, I3, W3⟩ := qk_loop120 (fl := fl) (wt := wt) (li := li) (x2 := nI (40 * p + 20 * h p)) (x3 := nI (40 * p + 20 * h p + m p)) E 20 0 N2 g2 pv2 us2 hk2 hv2 tk2 tv2 fw2 rfl I2
  obtain ⟨⟨n1, _, _⟩, hG, hP, hC, hU, hH3⟩ := I3
  have hold : ∀ c, 40 * p + 20 * h p ≤ c → c < 40 * p + 20 * h p + m p → hk3 c = hk c ∧ hv3 c = hv c ∧ tk3 c = tk c ∧ tv3 c = tv c := fun c c1 c2 => hC.1 c (by omega)
  obtain ⟨fw4, ho4, s1, s2, W4⟩ := qk_sweep (fl := fl) (pk := pk) (pv := pv2) (wt := wt) (hf := upd hf p (nI (1 - h p))) (us := us3) (hk := hk3) (hv := hv3) (tk := tk3) (tv := tv3) (li := li)
    (L' := qr_L (qn_u m p N) (qn_u h p (1 - h p))) (o := 40 * p + 20 * h p) (M := m p) (by omega) (fun c c1 c2 => by
      obtain ⟨a1, a2, a3, a4⟩ := hold c c1 c2
      rw [a1, a2, a3, a4]
      obtain ⟨_, w1, w2⟩ := hXC c (qr_Lm hp d1 d2 c1 c2).1
      exact ⟨qr_TWB w1, qr_TWB w2⟩) (m p) 0 fw3 ho (qk_L (qr_L m h) (40 * p + 20 * (1 - h p)) N fw3) (by omega) (fun c c1 c2 => by
      obtain ⟨l1, l2⟩ := qr_Lm (m := m) (h := h) hp d1 d2 (by omega) c2
      rcases hG.2 c (by omega) with z | ⟨i, z1, z2⟩
      · exact Or.inl ⟨z, qk_Li.mpr (Or.inr ⟨l1, z⟩)⟩
      · have z3 := (hG.1 i z1).2
        rw [z2] at z3
        refine Or.inr ⟨_, by omega, z3, Bool.eq_false_iff.mpr fun y => ?_⟩
        rcases qk_Li.mp y with x | ⟨_, x⟩
        · omega
        · rw [z3] at x
          exact absurd x (qn_neg (by omega))) (fun c c1 c2 => by
      rcases hG.2 c (by omega) with z | ⟨i, z1, z2⟩
      · exact z
      · obtain ⟨q1, q2⟩ := hQ _ (hG.1 i z1).1
        have := hLp _ q1 q2
        rw [z2] at this
        omega) (fun c c1 c2 => by
      refine Bool.eq_false_iff.mpr fun z => ?_
      have y := qr_Li.mp z
      rw [show c / 40 = p by omega, qn_us, qn_us] at y
      omega) (fun c hc => by
      apply Bool.eq_iff_iff.mpr
      rw [qk_Li, qr_Li]
      by_cases e : c / 40 = p
      · rw [e, qn_us, qn_us]
        constructor
        · intro y
          exact Or.inl ⟨by omega, by omega⟩
        · rintro (y | ⟨y, _⟩)
          · omega
          · have := hLp c y e
            omega
      · rw [qn_un e, qn_un e]
        constructor
        · intro y
          refine Or.inr ⟨qr_Li.mpr y, ?_⟩
          rcases hG.2 c y.1 with z | ⟨i, z1, z2⟩
          · exact z
          · obtain ⟨q1, q2⟩ := hQ _ (hG.1 i z1).1
            rw [z2] at q2
            exact absurd q2 e
        · rintro (y | ⟨y, _⟩)
          · omega
          · exact qr_Li.mp y) hH3
  refine ⟨N, g, pv2, us3, hk3, hv3, tk3, tv3, fw4, ho4, n1, fun i hi => (hG.1 i hi).1, qk_inj (by omega) n1 hG, hP, hC, hU, s1, s2, fun post q => ?_⟩
  have hin : vp_in (nI p) 3 := vp_in_nI hp (by decide)
  unfold wpX_collectHeap
  dsimp only
  rw [qn_c (a := p) (by omega), d6, d7, qn_base, show (1 : Int32) - nI (h p) = nI (1 - h p) from pk_sub (a := 1) d2]
  refine ⟨hin, nm_e ⟨hin, nm_r (nI_add _ _) ⟨hin, hin, nm_e ⟨hin, nm_e (Exists.intro 5 (W1 post 5 (by omega) (Exists.intro 4 (W2 post 4 (by omega) (Exists.intro 21 (W3 post 21 (by omega) ?_))))))⟩⟩⟩⟩
  unfold wX_collectHeap_210
  exact Exists.intro (m p + 1) (W4 _ (m p + 1) (by omega) q)
end
section
/-! Y's spread, clean, mark -/
def qy_n (rc : Nat → Int32) : Nat := qs_s (fun i => if rc i = 0 then 0 else 1) 60
/-- closed: what a reached pair leads to is reached -/
def qy_cl (kd ct rc : Nat → Int32) (a : Nat) : Prop := ∀ q, a ≤ q → q < 141 → ¬ rc ((q - 21) / 2) = 0 → kd q = 2 → ∀ d, d < 60 → ct q = nI d → ¬ rc d = 0
def qy_A (A : Nat → Prop) (kd ct : Nat → Int32) : Prop := ∀ q, 21 ≤ q → q < 141 → A ((q - 21) / 2) → kd q = 2 → ∃ d, d < 60 ∧ ct q = nI d ∧ A d
def qy_in (A : Nat → Prop) (rc : Nat → Int32) : Prop := ∀ i, i < 60 → ¬ rc i = 0 → A i
theorem qy_n1 {rc : Nat → Int32} {d : Nat} (hd : d < 60) (h : rc d = 0) : qy_n (upd rc d 1) = qy_n rc + 1 := by
  have a := qs_one (f := fun i => if upd rc d 1 i = 0 then 0 else 1) (g := fun i => if rc i = 0 then 0 else 1) (k := d) (n := 60) hd (fun j _ hj => by
    show (if upd rc d 1 j = 0 then 0 else 1) = (if rc j = 0 then 0 else 1)
    rw [pk_un hj])
  rw [pk_us, if_pos h, if_neg (by decide)] at a
  unfold qy_n
  omega
theorem qy_n60 {rc : Nat → Int32} (h : 60 ≤ qy_n rc) : ∀ i, i < 60 → ¬ rc i = 0 := by
  intro i hi e
  have a := qs_one (f := fun i => if rc i = 0 then 0 else 1) (g := fun j => if j = i then 1 else if rc j = 0 then 0 else 1) (k := i) (n := 60) hi (fun j _ hj => by
    show (if rc j = 0 then 0 else 1) = (if j = i then 1 else if rc j = 0 then 0 else 1)
    rw [if_neg hj])
  have b := qs_le (f := fun j => if j = i then 1 else if rc j = 0 then 0 else 1) (b := 1) (n := 60) (fun j _ => by
    show (if j = i then 1 else if rc j = 0 then 0 else 1) ≤ 1
    split
    · omega
    · split <;> omega)
  rw [if_pos rfl, if_pos e] at a
  unfold qy_n at h
  omega
section
variable {kd ct ml uy cp : Nat → Int32}
theorem qy_sp19 {A : Nat → Prop} (hA : qy_A A kd ct) : ∀ (d q : Nat) (x1 : Int32) (rc : Nat → Int32), q + d = 141 → 21 ≤ q → qy_in A rc →
    ∃ (x1' : Int32) (rc' : Nat → Int32), qy_in A rc' ∧ (∀ i, i < 60 → ¬ rc i = 0 → ¬ rc' i = 0) ∧ ((x1' = x1 ∧ rc' = rc ∧ qy_cl kd ct rc q) ∨ (x1' = 1 ∧ qy_n rc < qy_n rc')) ∧
      ∀ (post : SY → Prop) (J : Int32 → Int32 → (Nat → Int32) → (Nat → Int32) → (Nat → Int32) → (Nat → Int32) → (Nat → Int32) → (Nat → Int32) → Prop) (x2 : Int32) (n : Nat), d < n → J x1' (x2 + 1) kd ct ml uy rc' cp →
        wY_spread_19 post J x2 n x1 (nI q) kd ct ml uy rc cp := by
  intro d
  induction d with
  | zero =>
    intro q x1 rc hq h21 hin
    have e : q = 141 := by omega
    subst e
    refine ⟨x1, rc, hin, fun _ _ h => h, Or.inl ⟨rfl, rfl, fun q h1 h2 => by omega⟩, fun post J x2 n hn h => ?_⟩
    cases n with
    | zero => omega
    | succ n => exact br_t (by decide) (nm_e h)
  | succ d ih =>
    intro q x1 rc hq h21 hin
    have hge : ¬ (141 : Int32) ≤ nI q := nI_ge (b := 141) (by omega) (by decide)
    have i1 : vp_in (nI ((q - 21) / 2)) 60 := vp_in_nI (by omega) (by decide)
    have i2 : vp_in (nI q) 141 := vp_in_nI (by omega) (by decide)
    have n1 : (nI ((q - 21) / 2)).toNatClampNeg = (q - 21) / 2 := qn_c (by omega)
    have n2 : (nI q).toNatClampNeg = q := qn_c (by omega)
    have hown := qn_own q h21 (by omega)
    -- nothing at q
    have keep : (¬ rc ((q - 21) / 2) = 0 → kd q = 2 → ∀ d, d < 60 → ct q = nI d → ¬ rc d = 0) →
        ((rc ((q - 21) / 2) = 0) ∨ (¬ rc ((q - 21) / 2) = 0 ∧ ¬ kd q = 2) ∨ (¬ rc ((q - 21) / 2) = 0 ∧ kd q = 2 ∧ ∃ d, d < 60 ∧ ct q = nI d ∧ ¬ rc d = 0)) →
        ∃ (x1' : Int32) (rc' : Nat → Int32), qy_in A rc' ∧ (∀ i, i < 60 → ¬ rc i = 0 → ¬ rc' i = 0) ∧ ((x1' = x1 ∧ rc' = rc ∧ qy_cl kd ct rc q) ∨ (x1' = 1 ∧ qy_n rc < qy_n rc')) ∧
          ∀ (post : SY → Prop) (J : Int32 → Int32 → (Nat → Int32) → (Nat → Int32) → (Nat → Int32) → (Nat → Int32) → (Nat → Int32) → (Nat → Int32) → Prop) (x2 : Int32) (n : Nat), d + 1 < n → J x1' (x2 + 1) kd ct ml uy rc' cp →
            wY_spread_19 post J x2 n x1 (nI q) kd ct ml uy rc cp := by
      intro hk hcase
      obtain ⟨x1', rc', a1, a2, a3, a4⟩ := ih (q + 1) x1 rc (by omega) (by omega) hin
      refine ⟨x1', rc', a1, a2, ?_, fun post J x2 n hn h => ?_⟩
      · rcases a3 with ⟨b1, b2, b3⟩ | b
        · refine Or.inl ⟨b1, b2, fun q' c1 c2 => ?_⟩
          rcases Nat.lt_or_ge q q' with z | z
          · exact b3 q' z c2
          · have e : q' = q := by omega
            subst e
            exact hk
        · exact Or.inr b
      · cases n with
        | zero => omega
        | succ n =>
          have z := a4 post J x2 n (by omega) h
          unfold wY_spread_19
          rw [hown, n1, n2, nI_1]
          rcases hcase with c | ⟨c1, c2⟩ | ⟨c1, c2, d', c3, c4, c5⟩
          · exact br_f hge ⟨by decide, i1, br_t c (nm_e z)⟩
          · exact br_f hge ⟨by decide, i1, br_f c1 ⟨i2, br_f c2 (nm_e z)⟩⟩
          · rw [c4, qn_c (a := d') (by omega)]
            exact br_f hge ⟨by decide, i1, br_f c1 ⟨i2, br_t c2 ⟨i2, vp_in_nI c3 (by decide), br_f c5 (nm_e z)⟩⟩⟩
    by_cases c1 : rc ((q - 21) / 2) = 0
    · exact keep (fun z => absurd c1 z) (Or.inl c1)
    by_cases c2 : kd q = 2
    · obtain ⟨d', e1, e2, e3⟩ := hA q h21 (by omega) (hin _ (by omega) c1) c2
      by_cases c3 : rc d' = 0
      · obtain ⟨x1', rc', a1, a2, a3, a4⟩ := ih (q + 1) 1 (upd rc d' 1) (by omega) (by omega) (fun i hi h => by
          by_cases z : i = d'
          · rw [z]
            exact e3
          · rw [pk_un z] at h
            exact hin i hi h)
        refine ⟨x1', rc', a1, fun i hi h => a2 i hi ?_, Or.inr ?_, fun post J x2 n hn h => ?_⟩
        · by_cases z : i = d'
          · rw [z, pk_us]
            decide
          · rw [pk_un z]
            exact h
        · have hn1 := qy_n1 e1 c3
          rcases a3 with ⟨b1, b2, _⟩ | ⟨b1, b2⟩
          · rw [b2]
            exact ⟨b1, by omega⟩
          · exact ⟨b1, by omega⟩
        · cases n with
          | zero => omega
          | succ n =>
            have z := a4 post J x2 n (by omega) h
            unfold wY_spread_19
            rw [hown, n1, n2, nI_1, e2, qn_c (a := d') (by omega), qn_b1]
            have i3 : vp_in (nI d') 60 := vp_in_nI e1 (by decide)
            exact br_f hge ⟨by decide, i1, br_f c1 ⟨i2, br_t c2 ⟨i2, i3, br_t c3 ⟨i2, i3, nm_e (nm_e z)⟩⟩⟩⟩
      · refine keep (fun _ _ d hd hd2 => ?_) (Or.inr (Or.inr ⟨c1, c2, d', e1, e2, c3⟩))
        rw [e2] at hd2
        have := qn_inj (by omega) (by omega) hd2
        subst this
        exact c3
    · exact keep (fun _ z => absurd z c2) (Or.inr (Or.inl ⟨c1, c2⟩))
theorem qy_sp4 {A : Nat → Prop} (hA : qy_A A kd ct) : ∀ (d r : Nat) (x1 : Int32) (rc : Nat → Int32), r + d = 60 → ((x1 = 0 ∧ qy_cl kd ct rc 21) ∨ (x1 = 1 ∧ r ≤ qy_n rc)) → qy_in A rc →
    ∃ rc' : Nat → Int32, qy_in A rc' ∧ (∀ i, i < 60 → ¬ rc i = 0 → ¬ rc' i = 0) ∧ qy_cl kd ct rc' 21 ∧
      ∀ (post : SY → Prop) (n : Nat), d < n → post (kd, ct, ml, uy, rc', cp) → wY_spread_4 post n x1 (nI r) kd ct ml uy rc cp := by
  intro d
  induction d with
  | zero =>
    intro r x1 rc hr hx hin
    have e : r = 60 := by omega
    subst e
    refine ⟨rc, hin, fun _ _ h => h, ?_, fun post n hn h => ?_⟩
    · rcases hx with ⟨_, z⟩ | ⟨_, z⟩
      · exact z
      · exact fun q _ _ _ _ d hd _ => qy_n60 z d hd
    · cases n with
      | zero => omega
      | succ n => exact br_t (by decide) h
  | succ d ih =>
    intro r x1 rc hr hx hin
    have hge : ¬ (60 : Int32) ≤ nI r := nI_ge (b := 60) (by omega) (by decide)
    rcases hx with ⟨z1, z2⟩ | ⟨z1, z2⟩
    · refine ⟨rc, hin, fun _ _ h => h, z2, fun post n hn h => ?_⟩
      cases n with
      | zero => omega
      | succ n => exact br_f hge (br_t z1 h)
    · obtain ⟨x1', rc1, a1, a2, a3, a4⟩ := qy_sp19 (ml := ml) (uy := uy) (cp := cp) hA 120 21 0 rc (by omega) (by omega) hin
      obtain ⟨rc', b1, b2, b3, b4⟩ := ih (r + 1) x1' rc1 (by omega) (by
        rcases a3 with ⟨c1, c2, c3⟩ | ⟨c1, c2⟩
        · rw [c2]
          exact Or.inl ⟨c1, c3⟩
        · exact Or.inr ⟨c1, by omega⟩) a1
      refine ⟨rc', b1, fun i hi h => b2 i hi (a2 i hi h), b3, fun post n hn h => ?_⟩
      cases n with
      | zero => omega
      | succ n =>
        have y := b4 post n (by omega) h
        rw [← nI_1] at y
        rw [z1]
        exact br_f hge (br_f (by decide) (Exists.intro 121 (a4 post (wY_spread_4 post n) (nI r) 121 (by omega) y)))
theorem qy_spread {A : Nat → Prop} {rc : Nat → Int32} (hA : qy_A A kd ct) (hin : qy_in A rc) :
    ∃ rc' : Nat → Int32, qy_in A rc' ∧ (∀ i, i < 60 → ¬ rc i = 0 → ¬ rc' i = 0) ∧ qy_cl kd ct rc' 21 ∧
      ∀ post : SY → Prop, post (kd, ct, ml, uy, rc', cp) → wpY_spread post (kd, ct, ml, uy, rc, cp) := by
  obtain ⟨rc', a1, a2, a3, a4⟩ := qy_sp4 (ml := ml) (uy := uy) (cp := cp) hA 60 0 1 rc rfl (Or.inr ⟨rfl, Nat.zero_le _⟩) hin
  exact ⟨rc', a1, a2, a3, fun post h => Exists.intro 61 (a4 post 61 (by omega) h)⟩
/-- clean's first loop -/
theorem qy_cl2 {p : Int32} : ∀ (d i : Nat) (rc : Nat → Int32), i + d = 60 → (∀ j, j < i → rc j = 0) → ∃ rc' : Nat → Int32, (∀ j, j < 60 → rc' j = 0) ∧
    ∀ (post : SY → Prop) (n : Nat), d < n → (∃ n23, wY_clean_23 post p n23 0 kd ct ml uy rc' cp) → wY_clean_2 post p n (nI i) kd ct ml uy rc cp := by
  intro d
  induction d with
  | zero =>
    intro i rc hi h0
    have e : i = 60 := by omega
    subst e
    refine ⟨rc, h0, fun post n hn h => ?_⟩
    cases n with
    | zero => omega
    | succ n => exact br_t (by decide) h
  | succ d ih =>
    intro i rc hi h0
    obtain ⟨rc', a1, a2⟩ := ih (i + 1) (upd rc i 0) (by omega) (fun j hj => by
      by_cases e : j = i
      · rw [e, pk_us]
      · rw [pk_un e]
        exact h0 j (by omega))
    refine ⟨rc', a1, fun post n hn h => ?_⟩
    cases n with
    | zero => omega
    | succ n =>
      have z := a2 post n (by omega) h
      unfold wY_clean_2
      rw [qn_c (a := i) (by omega), qn_b0, nI_1]
      exact br_f (nI_ge (b := 60) (by omega) (by decide)) ⟨vp_in_nI (by omega) (by decide), nm_e (nm_e z)⟩
theorem qy_tt {w : Nat → Nat} {uy : Nat → Int32} {q : Nat} (h : q < 21) : qy_t w uy q ↔ qr_th w q := by
  unfold qy_t qr_th
  constructor
  · rintro (z | z | z)
    · exact Or.inl z
    · exact Or.inr z.2.2
    · omega
  · rintro (z | z)
    · exact Or.inl z
    · by_cases y : q < 12
      · exact Or.inl y
      · exact Or.inr (Or.inl ⟨by omega, h, z⟩)
/-- clean's roots -/
theorem qy_cl23 {w : Nat → Nat} {p : Nat} (hp : p < 3) (hw : ∀ p, p < 3 → w p ≤ 3 ∧ ml p = nI (w p)) (hu : ∀ y, y < 60 → uy y = 0 ∨ uy y = 1)
    (hr : ∀ j, j < 21 → qr_ow j = p → qr_th w j → kd j = 2 → ∃ d, d < 60 ∧ ct j = nI d) : ∀ (d j : Nat) (rc : Nat → Int32), j + d = 21 →
    ∃ rc' : Nat → Int32, (∀ i, i < 60 → ¬ rc i = 0 → ¬ rc' i = 0) ∧ (∀ q, j ≤ q → q < 21 → qr_ow q = p → qr_th w q → kd q = 2 → ∀ i, i < 60 → ct q = nI i → ¬ rc' i = 0) ∧
      (∀ i, i < 60 → ¬ rc' i = 0 → ¬ rc i = 0 ∨ ∃ q, q < 21 ∧ qr_ow q = p ∧ qr_th w q ∧ kd q = 2 ∧ ct q = nI i) ∧
      ∀ (post : SY → Prop) (n : Nat), d < n → (∀ n', 0 < n' → wY_clean_23 post (nI p) n' (nI 21) kd ct ml uy rc' cp) → wY_clean_23 post (nI p) n (nI j) kd ct ml uy rc cp := by
  intro d
  induction d with
  | zero =>
    intro j rc hj
    have e : j = 21 := by omega
    subst e
    exact ⟨rc, fun _ _ h => h, fun q h1 h2 => by omega, fun i hi h => Or.inl h, fun post n hn h => h n (by omega)⟩
  | succ d ih =>
    intro j rc hj
    have i2 : vp_in (nI j) 141 := vp_in_nI (by omega) (by decide)
    have n2 : (nI j).toNatClampNeg = j := qn_c (by omega)
    have hge : ¬ (21 : Int32) ≤ nI j := nI_ge (b := 21) (by omega) (by decide)
    have ow3 := qr_ow3 (show j < 21 by omega)
    -- the head of the loop up to the owner
    have top : ∀ (post : SY → Prop) (n : Nat) (rc : Nat → Int32), wY_clean_47 post (wY_clean_23 post (nI p) n) (nI p) (nI j) (nI (qr_ow j)) kd ct ml uy rc cp → wY_clean_23 post (nI p) (n + 1) (nI j) kd ct ml uy rc cp := by
      intro post n rc h
      unfold wY_clean_23
      refine br_f hge ?_
      by_cases z : j < 12
      · refine br_f (nI_ge (b := 12) z (by decide)) ⟨by decide, ?_⟩
        rw [show nI j / 4 = nI (j / 4) from pk_div (d := 4) (by omega) (by decide) (by decide)]
        rw [qr_ow, if_pos z] at h
        exact h
      · refine br_t (nI_le (a := 12) (by omega) (by omega)) ⟨by decide, ?_⟩
        rw [show nI j - 12 = nI (j - 12) from pk_sub (b := 12) (by omega), show nI (j - 12) / 3 = nI ((j - 12) / 3) from pk_div (d := 3) (by omega) (by decide) (by decide)]
        rw [qr_ow, if_neg z] at h
        exact h
    have keep : ¬ (qr_ow j = p ∧ qr_th w j ∧ kd j = 2) → ∃ rc' : Nat → Int32, (∀ i, i < 60 → ¬ rc i = 0 → ¬ rc' i = 0) ∧ (∀ q, j ≤ q → q < 21 → qr_ow q = p → qr_th w q → kd q = 2 → ∀ i, i < 60 → ct q = nI i → ¬ rc' i = 0) ∧
      (∀ i, i < 60 → ¬ rc' i = 0 → ¬ rc i = 0 ∨ ∃ q, q < 21 ∧ qr_ow q = p ∧ qr_th w q ∧ kd q = 2 ∧ ct q = nI i) ∧
      ∀ (post : SY → Prop) (n : Nat), d + 1 < n → (∀ n', 0 < n' → wY_clean_23 post (nI p) n' (nI 21) kd ct ml uy rc' cp) → wY_clean_23 post (nI p) n (nI j) kd ct ml uy rc cp := by
      intro hn
      obtain ⟨rc', a1, a2, a3, a4⟩ := ih (j + 1) rc (by omega)
      refine ⟨rc', a1, fun q h1 h2 h3 h4 h5 => ?_, a3, fun post n hn' h => ?_⟩
      · rcases Nat.lt_or_ge j q with z | z
        · exact a2 q z h2 h3 h4 h5
        · have e : q = j := by omega
          subst e
          exact absurd ⟨h3, h4, h5⟩ hn
      · cases n with
        | zero => omega
        | succ n =>
          have z := a4 post n (by omega) h
          refine top post n rc ?_
          unfold wY_clean_47
          rw [n2, nI_1]
          refine pk_eq (qr_ow j) p (fun e => ⟨i2, ?_⟩) (fun e => nm_e z)
          by_cases c2 : kd j = 2
          · refine br_t c2 (qy_there hw hu (by omega) (fun t => ?_) (fun t => br_t rfl (nm_e z)))
            exact absurd ⟨e, (qy_tt (by omega)).mp t, c2⟩ hn
          · exact br_f c2 (nm_e z)
    by_cases c : qr_ow j = p ∧ qr_th w j ∧ kd j = 2
    · obtain ⟨c1, c2, c3⟩ := c
      obtain ⟨d', e1, e2⟩ := hr j (by omega) c1 c2 c3
      have i3 : vp_in (nI d') 60 := vp_in_nI e1 (by decide)
      obtain ⟨rc', a1, a2, a3, a4⟩ := ih (j + 1) (upd rc d' 1) (by omega)
      have h1d : ∀ i, i < 60 → (¬ rc i = 0 ∨ i = d') → ¬ rc' i = 0 := fun i hi h => a1 i hi (by
        by_cases z : i = d'
        · rw [z, pk_us]
          decide
        · rw [pk_un z]
          exact h.elim id (fun y => absurd y z))
      refine ⟨rc', fun i hi h => h1d i hi (Or.inl h), fun q h1 h2 h3 h4 h5 i hi h6 => ?_, fun i hi h => ?_, fun post n hn' h => ?_⟩
      · rcases Nat.lt_or_ge j q with z | z
        · exact a2 q z h2 h3 h4 h5 i hi h6
        · have e : q = j := by omega
          subst e
          rw [e2] at h6
          exact h1d i hi (Or.inr (qn_inj (by omega) (by omega) h6.symm))
      · rcases a3 i hi h with y | y
        · by_cases z : i = d'
          · exact Or.inr ⟨j, by omega, c1, c2, c3, by rw [z]; exact e2⟩
          · rw [pk_un z] at y
            exact Or.inl y
        · exact Or.inr y
      · cases n with
        | zero => omega
        | succ n =>
          have z := a4 post n (by omega) h
          refine top post n rc ?_
          unfold wY_clean_47
          rw [n2, nI_1, e2, qn_c (a := d') (by omega), qn_b1]
          exact br_t (by rw [c1]) ⟨i2, br_t c3 (qy_there hw hu (by omega) (fun t => br_f (by decide) ⟨i2, i3, nm_e (nm_e z)⟩) (fun t => absurd ((qy_tt (by omega)).mpr c2) t))⟩
    · exact keep c
/-- clean's last loop -/
theorem qy_cl98 {rc : Nat → Int32} {p : Nat} (hp : p < 3) : ∀ (d i : Nat) (uy : Nat → Int32), i + d = 20 → (∀ y, y < 60 → uy y = 0 ∨ uy y = 1) →
    ∃ uy' : Nat → Int32, (∀ y, 20 * p + i ≤ y → y < 20 * p + 20 → (rc y = 0 → uy' y = 0) ∧ (¬ rc y = 0 → uy' y = uy y)) ∧ (∀ y, ¬ (20 * p + i ≤ y ∧ y < 20 * p + 20) → uy' y = uy y) ∧
      ∀ (post : SY → Prop) (n : Nat), d < n → post (kd, ct, ml, uy', rc, cp) → wY_clean_98 post (nI p) n (nI (20 * p + i)) kd ct ml uy rc cp := by
  intro d
  induction d with
  | zero =>
    intro i uy hi hu
    have e : i = 20 := by omega
    subst e
    refine ⟨uy, fun y h1 h2 => by omega, fun _ _ => rfl, fun post n hn h => ?_⟩
    cases n with
    | zero => omega
    | succ n =>
      unfold wY_clean_98
      rw [qn_20p]
      exact br_t (nI_le (Nat.le_refl _) (by omega)) h
  | succ d ih =>
    intro i uy hi hu
    have hge : ¬ nI (20 * p + 20) ≤ nI (20 * p + i) := nI_ge (by omega) (by omega)
    have hin : vp_in (nI (20 * p + i)) 60 := vp_in_nI (by omega) (by decide)
    have step : ∀ v : Int32, (v = 0 ∨ v = 1) → ((rc (20 * p + i) = 0 → v = 0) ∧ (¬ rc (20 * p + i) = 0 → v = uy (20 * p + i))) →
        (∀ (post : SY → Prop) (n : Nat) (uy1 : Nat → Int32), uy1 = upd uy (20 * p + i) v → wY_clean_98 post (nI p) n (nI (20 * p + (i + 1))) kd ct ml uy1 rc cp → wY_clean_98 post (nI p) (n + 1) (nI (20 * p + i)) kd ct ml uy rc cp) →
        ∃ uy' : Nat → Int32, (∀ y, 20 * p + i ≤ y → y < 20 * p + 20 → (rc y = 0 → uy' y = 0) ∧ (¬ rc y = 0 → uy' y = uy y)) ∧ (∀ y, ¬ (20 * p + i ≤ y ∧ y < 20 * p + 20) → uy' y = uy y) ∧
          ∀ (post : SY → Prop) (n : Nat), d + 1 < n → post (kd, ct, ml, uy', rc, cp) → wY_clean_98 post (nI p) n (nI (20 * p + i)) kd ct ml uy rc cp := by
      intro v hv hv2 hW
      obtain ⟨uy', a1, a2, a3⟩ := ih (i + 1) (upd uy (20 * p + i) v) (by omega) (fun y hy => by
        by_cases e : y = 20 * p + i
        · rw [e, pk_us]
          exact hv
        · rw [pk_un e]
          exact hu y hy)
      refine ⟨uy', fun y h1 h2 => ?_, fun y hy => ?_, fun post n hn h => ?_⟩
      · by_cases e : y = 20 * p + i
        · have b := a2 y (by omega)
          rw [e, pk_us] at b
          rw [e, b]
          exact hv2
        · have b := a1 y (by omega) h2
          rw [pk_un e] at b
          exact b
      · rw [a2 y (by omega), pk_un (by omega)]
      · cases n with
        | zero => omega
        | succ n => exact hW post n _ rfl (a3 post n (by omega) h)
    by_cases c1 : uy (20 * p + i) = 0
    · refine step 0 (Or.inl rfl) ⟨fun _ => rfl, fun _ => c1.symm⟩ (fun post n uy1 e h => ?_)
      subst e
      unfold wY_clean_98
      rw [qn_20p, qn_c (a := 20 * p + i) (by omega), qn_b0, nI_1]
      exact br_f hge ⟨hin, br_t c1 ⟨hin, nm_e (nm_e h)⟩⟩
    · have c1' : uy (20 * p + i) = 1 := (hu _ (by omega)).elim (fun z => absurd z c1) id
      by_cases c2 : rc (20 * p + i) = 0
      · refine step 0 (Or.inl rfl) ⟨fun _ => rfl, fun z => absurd c2 z⟩ (fun post n uy1 e h => ?_)
        subst e
        unfold wY_clean_98
        rw [qn_20p, qn_c (a := 20 * p + i) (by omega), qn_b0, nI_1]
        exact br_f hge ⟨hin, br_f c1 ⟨hin, br_t c2 ⟨hin, nm_e (nm_e h)⟩⟩⟩
      · refine step 1 (Or.inr rfl) ⟨fun z => absurd z c2, fun _ => c1'.symm⟩ (fun post n uy1 e h => ?_)
        subst e
        unfold wY_clean_98
        rw [qn_20p, qn_c (a := 20 * p + i) (by omega), qn_b1, nI_1]
        exact br_f hge ⟨hin, br_f c1 ⟨hin, br_f c2 ⟨hin, nm_e (nm_e h)⟩⟩⟩
theorem qy_clean {w : Nat → Nat} {p : Nat} {A : Nat → Prop} {rc : Nat → Int32} (hp : p < 3) (hw : ∀ p, p < 3 → w p ≤ 3 ∧ ml p = nI (w p)) (hu : ∀ y, y < 60 → uy y = 0 ∨ uy y = 1)
    (hr : ∀ j, j < 21 → qr_ow j = p → qr_th w j → kd j = 2 → ∃ d, d < 60 ∧ ct j = nI d ∧ A d) (hA : qy_A A kd ct) :
    ∃ uy' rc' : Nat → Int32, qy_in A rc' ∧ (∀ j, j < 21 → qr_ow j = p → qr_th w j → kd j = 2 → ∀ d, d < 60 → ct j = nI d → ¬ rc' d = 0) ∧ qy_cl kd ct rc' 21 ∧
      (∀ y, 20 * p ≤ y → y < 20 * p + 20 → (rc' y = 0 → uy' y = 0) ∧ (¬ rc' y = 0 → uy' y = uy y)) ∧ (∀ y, ¬ (20 * p ≤ y ∧ y < 20 * p + 20) → uy' y = uy y) ∧
      ∀ post : SY → Prop, post (kd, ct, ml, uy', rc', cp) → wpY_clean post (kd, ct, ml, uy, rc, cp) (nI p) := by
  obtain ⟨rc1, a1, W1⟩ := qy_cl2 (kd := kd) (ct := ct) (ml := ml) (uy := uy) (cp := cp) (p := nI p) 60 0 rc rfl (fun j hj => absurd hj (Nat.not_lt_zero j))
  obtain ⟨rc2, b1, b2, b3, W2⟩ := qy_cl23 (kd := kd) (ct := ct) (cp := cp) hp hw hu (fun j h1 h2 h3 h4 => by
    obtain ⟨d, e1, e2, _⟩ := hr j h1 h2 h3 h4
    exact ⟨d, e1, e2⟩) 21 0 rc1 rfl
  obtain ⟨rc3, c1, c2, c3, W3⟩ := qy_spread (ml := ml) (uy := uy) (cp := cp) (rc := rc2) hA (fun i hi h => by
    rcases b3 i hi h with z | ⟨q, q1, q2, q3, q4, q5⟩
    · exact absurd (a1 i hi) z
    · obtain ⟨d, e1, e2, e3⟩ := hr q q1 q2 q3 q4
      rw [q5] at e2
      have := qn_inj (by omega) (by omega) e2
      rw [this]
      exact e3)
  obtain ⟨uy', d1, d2, W4⟩ := qy_cl98 (kd := kd) (ct := ct) (ml := ml) (cp := cp) (rc := rc3) hp 20 0 uy rfl hu
  refine ⟨uy', rc3, c1, fun j h1 h2 h3 h4 d h5 h6 => c2 d h5 (b2 j (Nat.zero_le j) h1 h2 h3 h4 d h5 h6), c3, fun y h1 h2 => d1 y h1 h2, fun y h => d2 y h, fun post h => ?_⟩
  refine Exists.intro 61 (W1 post 61 (by omega) (Exists.intro 22 (W2 post 22 (by omega) (fun n' hn => ?_))))
  cases n' with
  | zero => omega
  | succ n' =>
    unfold wY_clean_23
    rw [qn_20]
    exact br_t (by decide) (W3 _ (nm_e (Exists.intro 21 (W4 post 21 (by omega) h))))
/-- mark -/
theorem qy_mk2 {f : Nat} (hf : f < 141) (hr : kd f = 2 → ∃ d, d < 60 ∧ ct f = nI d) : ∀ (d i : Nat) (rc : Nat → Int32), i + d = 60 → (∀ j, j < i → (¬ rc j = 0 ↔ (kd f = 2 ∧ ct f = nI j))) →
    ∃ rc' : Nat → Int32, (∀ j, j < 60 → (¬ rc' j = 0 ↔ (kd f = 2 ∧ ct f = nI j))) ∧
    ∀ (post : SY → Prop) (n : Nat), d < n → (∀ n', 0 < n' → wY_mark_2 post (nI f) n' (nI 60) kd ct ml uy rc' cp) → wY_mark_2 post (nI f) n (nI i) kd ct ml uy rc cp := by
  intro d
  induction d with
  | zero =>
    intro i rc hi h0
    have e : i = 60 := by omega
    subst e
    exact ⟨rc, h0, fun post n hn h => h n (by omega)⟩
  | succ d ih =>
    intro i rc hi h0
    have i1 : vp_in (nI f) 141 := vp_in_nI hf (by decide)
    have i2 : vp_in (nI i) 60 := vp_in_nI (by omega) (by decide)
    have n1 : (nI f).toNatClampNeg = f := qn_c (by omega)
    have n2 : (nI i).toNatClampNeg = i := qn_c (by omega)
    have hge : ¬ (60 : Int32) ≤ nI i := nI_ge (b := 60) (by omega) (by decide)
    have step : ∀ v : Int32, (¬ v = 0 ↔ (kd f = 2 ∧ ct f = nI i)) →
        (∀ (post : SY → Prop) (n : Nat) (rc1 : Nat → Int32), rc1 = upd rc i v → wY_mark_2 post (nI f) n (nI (i + 1)) kd ct ml uy rc1 cp → wY_mark_2 post (nI f) (n + 1) (nI i) kd ct ml uy rc cp) →
        ∃ rc' : Nat → Int32, (∀ j, j < 60 → (¬ rc' j = 0 ↔ (kd f = 2 ∧ ct f = nI j))) ∧
          ∀ (post : SY → Prop) (n : Nat), d + 1 < n → (∀ n', 0 < n' → wY_mark_2 post (nI f) n' (nI 60) kd ct ml uy rc' cp) → wY_mark_2 post (nI f) n (nI i) kd ct ml uy rc cp := by
      intro v hv hW
      obtain ⟨rc', a1, a2⟩ := ih (i + 1) (upd rc i v) (by omega) (fun j hj => by
        by_cases e : j = i
        · rw [e, pk_us]
          exact hv
        · rw [pk_un e]
          exact h0 j (by omega))
      refine ⟨rc', a1, fun post n hn h => ?_⟩
      cases n with
      | zero => omega
      | succ n => exact hW post n _ rfl (a2 post n (by omega) h)
    by_cases c1 : kd f = 2
    · by_cases c2 : ct f = nI i
      · refine step 1 ⟨fun _ => ⟨c1, c2⟩, fun _ => by decide⟩ (fun post n rc1 e h => ?_)
        subst e
        unfold wY_mark_2
        rw [n1, n2, qn_b1, nI_1]
        exact br_f hge ⟨i1, br_t c1 ⟨i1, br_t c2 ⟨i2, nm_e (nm_e h)⟩⟩⟩
      · refine step 0 ⟨fun z => absurd rfl z, fun z => absurd z.2 c2⟩ (fun post n rc1 e h => ?_)
        subst e
        unfold wY_mark_2
        rw [n1, n2, qn_b0, nI_1]
        exact br_f hge ⟨i1, br_t c1 ⟨i1, br_f c2 ⟨i2, nm_e (nm_e h)⟩⟩⟩
    · refine step 0 ⟨fun z => absurd rfl z, fun z => absurd z.1 c1⟩ (fun post n rc1 e h => ?_)
      subst e
      unfold wY_mark_2
      rw [n1, n2, qn_b0, nI_1]
      exact br_f hge ⟨i1, br_f c1 ⟨i2, nm_e (nm_e h)⟩⟩
theorem qy_mark {f : Nat} {A : Nat → Prop} {rc : Nat → Int32} (hf : f < 141) (hr : kd f = 2 → ∃ d, d < 60 ∧ ct f = nI d ∧ A d) (hA : qy_A A kd ct) :
    ∃ rc' : Nat → Int32, qy_in A rc' ∧ (kd f = 2 → ∀ d, d < 60 → ct f = nI d → ¬ rc' d = 0) ∧ qy_cl kd ct rc' 21 ∧
      ∀ post : SY → Prop, post (kd, ct, ml, uy, rc', cp) → wpY_mark post (kd, ct, ml, uy, rc, cp) (nI f) := by
  obtain ⟨rc1, a1, W1⟩ := qy_mk2 (ml := ml) (uy := uy) (cp := cp) hf (fun h => by
    obtain ⟨d, e1, e2, _⟩ := hr h
    exact ⟨d, e1, e2⟩) 60 0 rc rfl (fun j hj => absurd hj (Nat.not_lt_zero j))
  obtain ⟨rc3, c1, c2, c3, W3⟩ := qy_spread (ml := ml) (uy := uy) (cp := cp) (rc := rc1) hA (fun i hi h => by
    obtain ⟨z1, z2⟩ := (a1 i hi).mp h
    obtain ⟨d, e1, e2, e3⟩ := hr z1
    rw [z2] at e2
    have := qn_inj (by omega) (by omega) e2
    rw [this]
    exact e3)
  refine ⟨rc3, c1, fun h d hd e => c2 d hd ((a1 d hd).mpr ⟨h, e⟩), c3, fun post h => ?_⟩
  refine Exists.intro 61 (W1 post 61 (by omega) (fun n' hn => ?_))
  cases n' with
  | zero => omega
  | succ n' => exact br_t (by decide) (W3 _ h)
end
end
section
/-! the two collections keep the relation -/
/-- X's least closed set from the places of p -/
def qg_Q (p : Nat) (pk pv hk hv tk tv : Nat → Int32) (c : Nat) : Prop := ∀ A : Nat → Prop, (∀ j, j < 21 → qr_ow j = p → pk j = 2 → ∀ d, d < 120 → pv j = nI d → A d) →
  (∀ c, A c → (hk c = 2 → ∀ d, d < 120 → hv c = nI d → A d) ∧ (tk c = 2 → ∀ d, d < 120 → tv c = nI d → A d)) → A c
theorem qk_TW {L L' : Nat → Bool} {b N p : Nat} {g : Nat → Nat} {k x0 x : Int32} (h : qr_TW L p k x0) (ht : qk_T b N g k x0 x) (hL : ∀ i, i < N → L' (b + i) = true ∧ (b + i) / 40 = p) : qr_TW L' p k x := by
  by_cases e : k = 2
  · obtain ⟨i, i1, i2, i3⟩ := ht.1 e
    exact Or.inr (Or.inr (Or.inl ⟨e, b + i, (hL i i1).1, (hL i i1).2, i3⟩))
  · rw [ht.2 e]
    exact qr_TWn h e
theorem qk_TC {φ φ' : Nat → Nat} {b N : Nat} {g : Nat → Nat} {k x0 x k' y : Int32} (h : qr_TC φ k x0 k' y) (ht : qk_T b N g k x0 x) (hφ : ∀ i, i < N → φ' (b + i) = φ (g i)) (hb : b + N < 1000) (hg : ∀ i, i < N → g i < 1000) : qr_TC φ' k x k' y := by
  by_cases e : k = 2
  · obtain ⟨i, i1, i2, i3⟩ := ht.1 e
    refine ⟨h.1, fun _ => ?_, fun z => absurd (z.symm.trans e) (by decide), fun z => absurd (z.symm.trans e) (by decide)⟩
    rw [h.2.1 e, i2, i3, qn_c (hg i i1), qn_c (by omega), hφ i i1]
  · rw [ht.2 e]
    exact qr_TCn h e
theorem qb_gc {fl : Int32} {pk pv wt hf us hk hv tk tv fw ho li kd ct ml uy rc cp : Nat → Int32} {φ m h w : Nat → Nat} {p : Nat} (hD : qr_D m h w wt hf us ml)
    (hC : qr_C (qr_L m h) φ w pk pv hk hv tk tv kd ct uy) (hF : ∀ c, c < 120 → fw c = -1) (hH : qh_N ho (qh_T (qr_L m h) pk pv hk hv tk tv)) (hp : p < 3) :
    ∃ (φ' m' h' : Nat → Nat) (pv' hf' us' hk' hv' tk' tv' fw' ho' uy' rc' : Nat → Int32), qr_D m' h' w wt hf' us' ml ∧ qr_C (qr_L m' h') φ' w pk pv' hk' hv' tk' tv' kd ct uy' ∧ (∀ c, c < 120 → fw' c = -1) ∧
      qh_N ho' (qh_T (qr_L m' h') pk pv' hk' hv' tk' tv') ∧ (∀ q, q ≠ p → m' q = m q) ∧
      (∀ post : SX → Prop, post (fl, pk, pv', wt, hf', us', hk', hv', tk', tv', fw', ho', li) → wpX_collectHeap post (fl, pk, pv, wt, hf, us, hk, hv, tk, tv, fw, ho, li) (nI p)) ∧
      (∀ post : SY → Prop, post (kd, ct, ml, uy', rc', cp) → wpY_clean post (kd, ct, ml, uy, rc, cp) (nI p)) := by
  obtain ⟨d1, d2, d3, d4, d5, d6, d7⟩ := hD p hp
  obtain ⟨hXP, hXC, hXN, hYP, hYC, hF1, hF2, hF3⟩ := hC
  have hQ : ∀ c, qg_Q p pk pv hk hv tk tv c → qr_L m h c = true ∧ c / 40 = p := fun c hc => hc (fun c => qr_L m h c = true ∧ c / 40 = p) (fun j j1 j2 j3 d e1 e2 => by
    have t := hXP j j1
    rw [j2] at t
    obtain ⟨d', f1, f2, f3⟩ := qr_TW2 t j3
    have f4 := (hXC d' f1).1
    rw [f3] at e2
    rw [← qn_inj (by omega) (by omega) e2]
    exact ⟨f1, f2⟩) (fun c hc => by
    obtain ⟨c1, c2⟩ := hc
    obtain ⟨_, t1, t2⟩ := hXC c c1
    rw [c2] at t1 t2
    constructor
    · intro j3 d e1 e2
      obtain ⟨d', f1, f2, f3⟩ := qr_TW2 t1 j3
      have f4 := (hXC d' f1).1
      rw [f3] at e2
      rw [← qn_inj (by omega) (by omega) e2]
      exact ⟨f1, f2⟩
    · intro j3 d e1 e2
      obtain ⟨d', f1, f2, f3⟩ := qr_TW2 t2 j3
      have f4 := (hXC d' f1).1
      rw [f3] at e2
      rw [← qn_inj (by omega) (by omega) e2]
      exact ⟨f1, f2⟩)
  obtain ⟨N, g, pv', us', hk', hv', tk', tv', fw', ho', n1, gQ, ginj, gP, ⟨gC1, gC2⟩, ⟨gU1, gU2⟩, gF, gH, WX⟩ := qk_coll (fl := fl) (li := li) (ml := ml) (Q := qg_Q p pk pv hk hv tk tv) hD hXC hF hH hp hQ
    (fun j j1 j2 j3 => by
      have t := hXP j j1
      obtain ⟨d', f1, f2, f3⟩ := qr_TW2 t j3
      exact ⟨d', f3, fun A a1 a2 => a1 j j1 j2 j3 d' (hXC d' f1).1 f3⟩) (fun c hc e => by
      obtain ⟨d', f1, f2, f3⟩ := qr_TW2 (hXC c (hQ c hc).1).2.1 e
      exact ⟨d', f3, fun A a1 a2 => (a2 c (hc A a1 a2)).1 e d' (hXC d' f1).1 f3⟩) (fun c hc e => by
      obtain ⟨d', f1, f2, f3⟩ := qr_TW2 (hXC c (hQ c hc).1).2.2 e
      exact ⟨d', f3, fun A a1 a2 => (a2 c (hc A a1 a2)).2 e d' (hXC d' f1).1 f3⟩)
  have gL : ∀ i, i < N → qr_L m h (g i) = true ∧ g i / 40 = p ∧ g i < 120 := fun i hi => by
    obtain ⟨a, b⟩ := hQ _ (gQ i hi)
    exact ⟨a, b, (hXC _ a).1⟩
  -- Y
  obtain ⟨uy', rc', yA, yr, yc, yu1, yu2, WY⟩ := qy_clean (cp := cp) (rc := rc) (A := fun y => ∃ i, i < N ∧ φ (g i) = y) hp (qr_hw hD) (qr_hu ⟨hF1, hF2, hF3⟩) (fun j j1 j2 j3 j4 => by
      obtain ⟨t0, t2, _⟩ := hYP j j1 j3
      have e := t0.symm.trans j4
      obtain ⟨i, i1, i2, _⟩ := ((gP j j1).1 j2).1 e
      have := t2 e
      rw [i2, qn_c (by have := gL i i1; omega)] at this
      exact ⟨φ (g i), (hF1 _ (gL i i1).1).1, this, i, i1, rfl⟩) (fun q q1 q2 => by
      rintro ⟨i, i1, i2⟩ q3
      obtain ⟨l1, l2, l3⟩ := gL i i1
      obtain ⟨⟨t0, t2, _⟩, ⟨s0, s2, _⟩⟩ := hYC _ l1
      obtain ⟨_, _, c3, _, c5, _⟩ := gC2 i i1
      rcases qr_cell i2.symm q1 with e | e
      · rw [e] at q3
        have e' := t0.symm.trans q3
        obtain ⟨k, k1, k2, _⟩ := (c3 i1).1 e'
        have := t2 e'
        rw [k2, qn_c (by have := gL k k1; omega)] at this
        rw [e]
        exact ⟨φ (g k), (hF1 _ (gL k k1).1).1, this, k, k1, rfl⟩
      · rw [e] at q3
        have e' := s0.symm.trans q3
        obtain ⟨k, k1, k2, _⟩ := (c5 i1).1 e'
        have := s2 e'
        rw [k2, qn_c (by have := gL k k1; omega)] at this
        rw [e]
        exact ⟨φ (g k), (hF1 _ (gL k k1).1).1, this, k, k1, rfl⟩)
  have yg : ∀ i, i < N → ¬ rc' (φ (g i)) = 0 := fun i hi => by
    refine (gQ i hi (fun c => qr_L m h c = true ∧ ¬ rc' (φ c) = 0) (fun j j1 j2 j3 d e1 e2 => ?_) (fun c hc => ?_)).2
    · obtain ⟨d', f1, f2, f3⟩ := qr_TW2 (hXP j j1) j3
      have f4 := (hXC d' f1).1
      have e3 := e2
      rw [f3] at e3
      have e4 := qn_inj (by omega) (by omega) e3
      rw [← e4]
      refine ⟨f1, ?_⟩
      by_cases ht : qr_th w j
      · obtain ⟨t0, t2, _⟩ := hYP j j1 ht
        have t3 := t2 j3
        rw [f3, qn_c (by omega)] at t3
        exact yr j j1 j2 ht (t0.trans j3) _ (hF1 _ f1).1 t3
      · have := (hXN j j1 ht).1
        rw [this] at j3
        exact absurd j3 (by decide)
    · obtain ⟨c1, c2⟩ := hc
      obtain ⟨_, t1, t2⟩ := hXC c c1
      obtain ⟨⟨s0, s2, _⟩, ⟨r0, r2, _⟩⟩ := hYC c c1
      have p60 := (hF1 c c1).1
      constructor
      · intro j3 d e1 e2
        obtain ⟨d', f1, f2, f3⟩ := qr_TW2 t1 j3
        have f4 := (hXC d' f1).1
        rw [f3] at e2
        rw [← qn_inj (by omega) (by omega) e2]
        have s3 := s2 j3
        rw [f3, qn_c (by omega)] at s3
        refine ⟨f1, yc (21 + 2 * φ c) (by omega) (by omega) ?_ (s0.trans j3) _ (hF1 _ f1).1 s3⟩
        rw [show (21 + 2 * φ c - 21) / 2 = φ c by omega]
        exact c2
      · intro j3 d e1 e2
        obtain ⟨d', f1, f2, f3⟩ := qr_TW2 t2 j3
        have f4 := (hXC d' f1).1
        rw [f3] at e2
        rw [← qn_inj (by omega) (by omega) e2]
        have s3 := r2 j3
        rw [f3, qn_c (by omega)] at s3
        refine ⟨f1, yc (22 + 2 * φ c) (by omega) (by omega) ?_ (r0.trans j3) _ (hF1 _ f1).1 s3⟩
        rw [show (22 + 2 * φ c - 21) / 2 = φ c by omega]
        exact c2
  obtain ⟨b, hb⟩ : ∃ b, b = 40 * p + 20 * (1 - h p) := ⟨_, rfl⟩
  rw [← hb] at gP gC1 gC2
  have hLp : ∀ c, qr_L m h c = true → c / 40 = p → 40 * p + 20 * h p ≤ c ∧ c < 40 * p + 20 * h p + m p := fun c hc e => by
    have := qr_Li.mp hc
    rw [e] at this
    omega
  have L1 : ∀ c, qr_L (qn_u m p N) (qn_u h p (1 - h p)) c = true ↔ ((b ≤ c ∧ c < b + N) ∨ (qr_L m h c = true ∧ c / 40 ≠ p)) := fun c => by
    rw [qr_Li, qr_Li]
    by_cases e : c / 40 = p
    · rw [e, qn_us, qn_us]
      omega
    · rw [qn_un e, qn_un e]
      omega
  have Ln : ∀ i, i < N → qr_L (qn_u m p N) (qn_u h p (1 - h p)) (b + i) = true ∧ (b + i) / 40 = p := fun i hi => ⟨(L1 _).mpr (Or.inl (by omega)), by omega⟩
  have Lo : ∀ d q, qr_L m h d = true → d / 40 = q → q ≠ p → qr_L (qn_u m p N) (qn_u h p (1 - h p)) d = true := fun d q h1 h2 h3 => (L1 d).mpr (Or.inr ⟨h1, by omega⟩)
  have φn : ∀ i, i < N → (fun c => if b ≤ c ∧ c < b + N then φ (g (c - b)) else φ c) (b + i) = φ (g i) := fun i hi => by
    show (if b ≤ b + i ∧ b + i < b + N then φ (g (b + i - b)) else φ (b + i)) = φ (g i)
    rw [if_pos (by omega), Nat.add_sub_cancel_left]
  have φo : ∀ c, c / 40 ≠ p → (fun c => if b ≤ c ∧ c < b + N then φ (g (c - b)) else φ c) c = φ c := fun c hc => by
    show (if b ≤ c ∧ c < b + N then φ (g (c - b)) else φ c) = φ c
    rw [if_neg (by omega)]
  generalize (fun c => if b ≤ c ∧ c < b + N then φ (g (c - b)) else φ c) = ψ at φn φo
  have g1000 : ∀ i, i < N → g i < 1000 := fun i hi => by have := gL i hi; omega
  -- terms that lie in another process
  have tco : ∀ q k x k' y, q ≠ p → qr_TW (qr_L m h) q k x → qr_TC φ k x k' y → qr_TC ψ k x k' y := fun q k x k' y hq t c => qr_TCe c (fun e => by
    obtain ⟨d', f1, f2, f3⟩ := qr_TW2 t e
    have := (hXC d' f1).1
    rw [f3, qn_c (by omega)]
    exact φo d' (by omega))
  refine ⟨ψ, qn_u m p N, qn_u h p (1 - h p), pv', upd hf p (nI (1 - h p)), us', hk', hv', tk', tv', fw', ho', uy', rc', fun q hq => ?_,
    ⟨fun j hj => ?_, fun c hc => ?_, fun j hj hn => ?_, fun j hj ht => ?_, fun c hc => ?_, fun c hc => ?_, fun c d hc hd e => ?_, fun y hy => ?_⟩, gF, gH, fun q hq => qn_un hq, WX, WY⟩
  · obtain ⟨f1, f2, f3, f4, f5, f6, f7⟩ := hD q hq
    by_cases e : q = p
    · rw [e] at f3 f4 f5
      rw [e, pk_us, qn_us, qn_us, gU1]
      exact ⟨n1, by omega, f3, f4, f5, rfl, rfl⟩
    · rw [pk_un e, qn_un e, qn_un e, gU2 q e]
      exact ⟨f1, f2, f3, f4, f5, f6, f7⟩
  · by_cases e : qr_ow j = p
    · have t := hXP j hj
      rw [e] at t
      rw [e]
      exact qk_TW t ((gP j hj).1 e) Ln
    · rw [(gP j hj).2 e]
      exact qr_TWm (hXP j hj) (fun d h1 h2 => Lo d _ h1 h2 e)
  · rcases (L1 c).mp hc with z | ⟨z1, z2⟩
    · obtain ⟨i, rfl⟩ : ∃ i, c = b + i := ⟨c - b, by omega⟩
      obtain ⟨l1, l2, l3⟩ := gL i (by omega)
      obtain ⟨c1, c2, c3, _, c5, _⟩ := gC2 i (by omega)
      obtain ⟨_, t1, t2⟩ := hXC _ l1
      rw [l2] at t1 t2
      rw [c1, c2, (Ln i (by omega)).2]
      exact ⟨by omega, qk_TW t1 (c3 (by omega)) Ln, qk_TW t2 (c5 (by omega)) Ln⟩
    · obtain ⟨a1, a2, a3, a4⟩ := gC1 c (by omega)
      obtain ⟨t0, t1, t2⟩ := hXC c z1
      rw [a1, a2, a3, a4]
      exact ⟨t0, qr_TWm t1 (fun d h1 h2 => Lo d _ h1 h2 z2), qr_TWm t2 (fun d h1 h2 => Lo d _ h1 h2 z2)⟩
  · obtain ⟨z1, z2⟩ := hXN j hj hn
    refine ⟨z1, ?_⟩
    by_cases e : qr_ow j = p
    · rw [((gP j hj).1 e).2 (by rw [z1]; decide)]
      exact z2
    · rw [(gP j hj).2 e]
      exact z2
  · by_cases e : qr_ow j = p
    · exact qk_TC (hYP j hj ht) ((gP j hj).1 e) φn (by omega) g1000
    · rw [(gP j hj).2 e]
      exact tco _ _ _ _ _ e (hXP j hj) (hYP j hj ht)
  · rcases (L1 c).mp hc with z | ⟨z1, z2⟩
    · obtain ⟨i, rfl⟩ : ∃ i, c = b + i := ⟨c - b, by omega⟩
      obtain ⟨l1, l2, l3⟩ := gL i (by omega)
      obtain ⟨c1, c2, c3, _, c5, _⟩ := gC2 i (by omega)
      obtain ⟨t1, t2⟩ := hYC _ l1
      rw [c1, c2, φn i (by omega)]
      exact ⟨qk_TC t1 (c3 (by omega)) φn (by omega) g1000, qk_TC t2 (c5 (by omega)) φn (by omega) g1000⟩
    · obtain ⟨a1, a2, a3, a4⟩ := gC1 c (by omega)
      obtain ⟨_, x1, x2⟩ := hXC c z1
      obtain ⟨t1, t2⟩ := hYC c z1
      rw [a1, a2, a3, a4, φo c z2]
      exact ⟨tco _ _ _ _ _ z2 x1 t1, tco _ _ _ _ _ z2 x2 t2⟩
  · rcases (L1 c).mp hc with z | ⟨z1, z2⟩
    · obtain ⟨i, rfl⟩ : ∃ i, c = b + i := ⟨c - b, by omega⟩
      obtain ⟨l1, l2, l3⟩ := gL i (by omega)
      obtain ⟨f1, f2, f3⟩ := hF1 _ l1
      rw [φn i (by omega), (Ln i (by omega)).2, (yu1 _ (by omega) (by omega)).2 (yg i (by omega))]
      exact ⟨f1, by omega, f3⟩
    · obtain ⟨f1, f2, f3⟩ := hF1 _ z1
      rw [φo c z2, yu2 _ (by omega)]
      exact ⟨f1, f2, f3⟩
  · rcases (L1 c).mp hc with z | ⟨z1, z2⟩
    · obtain ⟨i, rfl⟩ : ∃ i, c = b + i := ⟨c - b, by omega⟩
      obtain ⟨l1, l2, l3⟩ := gL i (by omega)
      obtain ⟨f1, f2, f3⟩ := hF1 _ l1
      rw [φn i (by omega)] at e
      rcases (L1 d).mp hd with y | ⟨y1, y2⟩
      · obtain ⟨k, rfl⟩ : ∃ k, d = b + k := ⟨d - b, by omega⟩
        obtain ⟨k1, k2, k3⟩ := gL k (by omega)
        rw [φn k (by omega)] at e
        have := ginj i k (by omega) (by omega) (hF2 _ _ l1 k1 e)
        omega
      · obtain ⟨r1, r2, r3⟩ := hF1 _ y1
        rw [φo d y2] at e
        omega
    · obtain ⟨f1, f2, f3⟩ := hF1 _ z1
      rw [φo c z2] at e
      rcases (L1 d).mp hd with y | ⟨y1, y2⟩
      · obtain ⟨k, rfl⟩ : ∃ k, d = b + k := ⟨d - b, by omega⟩
        obtain ⟨k1, k2, k3⟩ := gL k (by omega)
        obtain ⟨r1, r2, r3⟩ := hF1 _ k1
        rw [φn k (by omega)] at e
        omega
      · rw [φo d y2] at e
        exact hF2 _ _ z1 y1 e
  · by_cases e : y / 20 = p
    · by_cases z : rc' y = 0
      · exact Or.inl ((yu1 y (by omega) (by omega)).1 z)
      · obtain ⟨i, i1, i2⟩ := yA y hy z
        refine Or.inr ⟨?_, b + i, (Ln i i1).1, by rw [φn i i1, i2]⟩
        rw [(yu1 y (by omega) (by omega)).2 z, ← i2]
        exact (hF1 _ (gL i i1).1).2.2
    · rw [yu2 y (by omega)]
      rcases hF3 y hy with z | ⟨z, c, hc, ec⟩
      · exact Or.inl z
      · obtain ⟨f1, f2, f3⟩ := hF1 c hc
        exact Or.inr ⟨z, c, Lo c _ hc rfl (by omega), by rw [φo c (by omega), ec]⟩
end
section
/-! collect, room, pair -/
theorem i_vc_collect {k : Nat} {u : SX} {v : SY} (I : i_Rel k u v) (hk : k + 5 ≤ 2560) (v1 : Int32) : wpX_collect (fun r u' => wpY_collect (fun r' v' => r' = r ∧ i_Rel (k + 5) u' v') v v1) u v1 := by
  obtain ⟨fl, pk, pv, wt, hf, us, hK, hv, tk, tv, fw, ho, li⟩ := u
  obtain ⟨kd, ct, ml, uy, rc, cp⟩ := v
  unfold wpX_collect wpY_collect
  dsimp only
  rcases qb_fit v1 0 with ⟨P, R, hP, hR, rfl, hz⟩ | ⟨hX, hY⟩
  · obtain ⟨φ, m, h, w, hD, hC, hF, hH⟩ := qr_open I
    obtain ⟨φ', m', h', pv', hf', us', hk', hv', tk', tv', fw', ho', uy', rc', gD, gC, gF, gH, _, WX, WY⟩ := qb_gc (fl := fl) (li := li) (rc := rc) (cp := cp) hD hC hF hH hP
    obtain ⟨d1, d2, d3, d4, d5, d6, d7⟩ := gD P hP
    refine qx_fit1 (R := 0) hP (by decide) (br_f (by decide) (WX _ ⟨vp_in_nI hP (by decide), ?_⟩))
    refine qy_bad0 (R := 0) hP (by decide) (br_t rfl (WY _ (qy_count hP ⟨?_, qr_mk φ' m' h' w gD gC gF gH⟩)))
    rw [qr_cnt gD gC.2.2.2.2.2 hP, qn_c (by omega)]
    exact d7.symm
  · exact hX _ (br_t rfl (hY _ (br_f (by decide) ⟨rfl, I⟩)))
theorem qb_room {fl : Int32} {pk pv wt hf us hk hv tk tv fw ho li kd ct ml uy rc cp : Nat → Int32} {φ m h w : Nat → Nat} {p : Nat} (n : Nat) (hD : qr_D m h w wt hf us ml)
    (hC : qr_C (qr_L m h) φ w pk pv hk hv tk tv kd ct uy) (hF : ∀ c, c < 120 → fw c = -1) (hH : qh_N ho (qh_T (qr_L m h) pk pv hk hv tk tv)) (hp : p < 3) (hn : n ≤ 20) :
    ∃ (r : Int32) (φ' m' h' : Nat → Nat) (pv' hf' us' hk' hv' tk' tv' fw' ho' uy' rc' : Nat → Int32), qr_D m' h' w wt hf' us' ml ∧ qr_C (qr_L m' h') φ' w pk pv' hk' hv' tk' tv' kd ct uy' ∧ (∀ c, c < 120 → fw' c = -1) ∧
      qh_N ho' (qh_T (qr_L m' h') pk pv' hk' hv' tk' tv') ∧ (r = 0 ∨ (r = 1 ∧ m' p + n ≤ 20)) ∧
      (∀ post : Int32 → SX → Prop, post r (fl, pk, pv', wt, hf', us', hk', hv', tk', tv', fw', ho', li) → wpX_makeRoom post (fl, pk, pv, wt, hf, us, hk, hv, tk, tv, fw, ho, li) (nI p) (nI n)) ∧
      (∀ post : Int32 → SY → Prop, post r (kd, ct, ml, uy', rc', cp) → wpY_room post (kd, ct, ml, uy, rc, cp) (nI p) (nI n)) := by
  obtain ⟨d1, d2, d3, d4, d5, d6, d7⟩ := hD p hp
  have hin : vp_in (nI p) 3 := vp_in_nI hp (by decide)
  have hcp : (nI p).toNatClampNeg = p := qn_c (by omega)
  have e20 : (20 : Int32) - nI n = nI (20 - n) := pk_sub (a := 20) hn
  have cnt := qr_cnt hD hC.2.2.2.2.2 hp
  by_cases e : m p ≤ 20 - n
  · refine ⟨1, φ, m, h, pv, hf, us, hk, hv, tk, tv, fw, ho, uy, rc, hD, hC, hF, hH, Or.inr ⟨rfl, by omega⟩, fun post q => ?_, fun post q => ?_⟩
    · unfold wpX_makeRoom wX_makeRoom_18
      dsimp only
      rw [hcp, d7, e20]
      exact ⟨hin, br_t (nI_le e (by omega)) ⟨hin, br_f (nI_nlt e (by omega)) q⟩⟩
    · unfold wpY_room wY_room_17
      dsimp only
      rw [e20]
      refine qy_count hp ?_
      rw [cnt]
      refine br_t (nI_le e (by omega)) (qy_count hp ?_)
      rw [cnt]
      exact br_f (nI_nlt e (by omega)) q
  · obtain ⟨φ', m', h', pv', hf', us', hk', hv', tk', tv', fw', ho', uy', rc', gD, gC, gF, gH, _, WX, WY⟩ := qb_gc (fl := fl) (li := li) (rc := rc) (cp := cp) hD hC hF hH hp
    obtain ⟨f1, f2, f3, f4, f5, f6, f7⟩ := gD p hp
    have cnt' := qr_cnt gD gC.2.2.2.2.2 hp
    by_cases e' : m' p ≤ 20 - n
    · refine ⟨1, φ', m', h', pv', hf', us', hk', hv', tk', tv', fw', ho', uy', rc', gD, gC, gF, gH, Or.inr ⟨rfl, by omega⟩, fun post q => ?_, fun post q => ?_⟩
      · unfold wpX_makeRoom wX_makeRoom_18
        dsimp only
        rw [hcp, d7, e20]
        refine ⟨hin, br_f (nI_ge (by omega) (by omega)) (WX _ ⟨hin, ?_⟩)⟩
        dsimp only
        rw [f7]
        exact br_f (nI_nlt e' (by omega)) q
      · unfold wpY_room wY_room_17
        dsimp only
        rw [e20]
        refine qy_count hp ?_
        rw [cnt]
        refine br_f (nI_ge (by omega) (by omega)) (WY _ (qy_count hp ?_))
        rw [cnt']
        exact br_f (nI_nlt e' (by omega)) q
    · refine ⟨0, φ', m', h', pv', hf', us', hk', hv', tk', tv', fw', ho', uy', rc', gD, gC, gF, gH, Or.inl rfl, fun post q => ?_, fun post q => ?_⟩
      · unfold wpX_makeRoom wX_makeRoom_18
        dsimp only
        rw [hcp, d7, e20]
        refine ⟨hin, br_f (nI_ge (by omega) (by omega)) (WX _ ⟨hin, ?_⟩)⟩
        dsimp only
        rw [f7]
        exact br_t (nI_lt (by omega) (by omega)) q
      · unfold wpY_room wY_room_17
        dsimp only
        rw [e20]
        refine qy_count hp ?_
        rw [cnt]
        refine br_f (nI_ge (by omega) (by omega)) (WY _ (qy_count hp ?_))
        rw [cnt']
        exact br_t (nI_lt (by omega) (by omega)) q
theorem qy_free {uy : Nat → Int32} {p : Nat} (h : qs_s (fun i => if uy (20 * p + i) = 0 then 0 else 1) 20 < 20) : ∃ y, 20 * p ≤ y ∧ y < 20 * p + 20 ∧ uy y = 0 := by
  refine Classical.byContradiction fun hn => ?_
  have a := qs_congr (f := fun i => if uy (20 * p + i) = 0 then 0 else 1) (g := fun _ => 1) (n := 20) (fun j hj => by
    show (if uy (20 * p + j) = 0 then 0 else 1) = 1
    rw [if_neg (fun z => hn ⟨20 * p + j, by omega, by omega, z⟩)])
  have b : qs_s (fun _ => 1) 20 = 20 := rfl
  omega
/-- cells are added -/
theorem qr_grow {L L' : Nat → Bool} {φ φ' w : Nat → Nat} {pk pv hk hv tk tv kd ct uy hk' hv' tk' tv' kd' ct' uy' : Nat → Int32} (H : qr_C L φ w pk pv hk hv tk tv kd ct uy)
    (h1 : ∀ c, L c = true → L' c = true ∧ φ' c = φ c ∧ hk' c = hk c ∧ hv' c = hv c ∧ tk' c = tk c ∧ tv' c = tv c ∧ kd' (21 + 2 * φ c) = kd (21 + 2 * φ c) ∧ ct' (21 + 2 * φ c) = ct (21 + 2 * φ c) ∧
      kd' (22 + 2 * φ c) = kd (22 + 2 * φ c) ∧ ct' (22 + 2 * φ c) = ct (22 + 2 * φ c))
    (h2 : ∀ c, L' c = true → ¬ L c = true → c < 120 ∧ qr_TW L' (c / 40) (hk' c) (hv' c) ∧ qr_TW L' (c / 40) (tk' c) (tv' c) ∧ φ' c < 60 ∧ φ' c / 20 = c / 40 ∧ uy (φ' c) = 0 ∧ uy' (φ' c) = 1 ∧
      qr_TC φ' (hk' c) (hv' c) (kd' (21 + 2 * φ' c)) (ct' (21 + 2 * φ' c)) ∧ qr_TC φ' (tk' c) (tv' c) (kd' (22 + 2 * φ' c)) (ct' (22 + 2 * φ' c)))
    (h3 : ∀ c d, L' c = true → ¬ L c = true → L' d = true → ¬ L d = true → φ' c = φ' d → c = d)
    (h4 : ∀ y, y < 60 → uy' y = uy y ∨ (uy' y = 1 ∧ ∃ c, L' c = true ∧ φ' c = y)) (h5 : ∀ y, y < 60 → uy y = 1 → uy' y = 1) (h6 : ∀ q, q < 21 → kd' q = kd q ∧ ct' q = ct q) :
    qr_C L' φ' w pk pv hk' hv' tk' tv' kd' ct' uy' := by
  obtain ⟨hXP, hXC, hXN, hYP, hYC, hF1, hF2, hF3⟩ := H
  have tc : ∀ q k x k' y, qr_TW L q k x → qr_TC φ k x k' y → qr_TC φ' k x k' y := fun q k x k' y t c => qr_TCe c (fun e => by
    obtain ⟨d', f1, f2, f3⟩ := qr_TW2 t e
    have := (hXC d' f1).1
    rw [f3, qn_c (by omega)]
    exact (h1 d' f1).2.1)
  refine ⟨fun j hj => qr_TWm (hXP j hj) (fun d hd _ => (h1 d hd).1), fun c hc => ?_, hXN, fun j hj ht => ?_, fun c hc => ?_, fun c hc => ?_, fun c d hc hd e => ?_, fun y hy => ?_⟩
  · by_cases z : L c = true
    · obtain ⟨a1, a2, a3, a4, a5, a6, _⟩ := h1 c z
      obtain ⟨t0, t1, t2⟩ := hXC c z
      rw [a3, a4, a5, a6]
      exact ⟨t0, qr_TWm t1 (fun d hd _ => (h1 d hd).1), qr_TWm t2 (fun d hd _ => (h1 d hd).1)⟩
    · obtain ⟨a1, a2, a3, _⟩ := h2 c hc z
      exact ⟨a1, a2, a3⟩
  · rw [(h6 j hj).1, (h6 j hj).2]
    exact tc _ _ _ _ _ (hXP j hj) (hYP j hj ht)
  · by_cases z : L c = true
    · obtain ⟨a1, a2, a3, a4, a5, a6, a7, a8, a9, a10⟩ := h1 c z
      obtain ⟨t0, t1, t2⟩ := hXC c z
      obtain ⟨s1, s2⟩ := hYC c z
      rw [a2, a3, a4, a5, a6, a7, a8, a9, a10]
      exact ⟨tc _ _ _ _ _ t1 s1, tc _ _ _ _ _ t2 s2⟩
    · obtain ⟨_, _, _, _, _, _, _, a8, a9⟩ := h2 c hc z
      exact ⟨a8, a9⟩
  · by_cases z : L c = true
    · obtain ⟨f1, f2, f3⟩ := hF1 c z
      rw [(h1 c z).2.1]
      exact ⟨f1, f2, h5 _ f1 f3⟩
    · obtain ⟨_, _, _, a4, a5, _, a7, _⟩ := h2 c hc z
      exact ⟨a4, a5, a7⟩
  · by_cases z : L c = true
    · obtain ⟨f1, f2, f3⟩ := hF1 c z
      by_cases y : L d = true
      · rw [(h1 c z).2.1, (h1 d y).2.1] at e
        exact hF2 c d z y e
      · obtain ⟨_, _, _, a4, a5, a6, a7, _⟩ := h2 d hd y
        rw [(h1 c z).2.1] at e
        rw [← e, f3] at a6
        exact absurd a6 (by decide)
    · by_cases y : L d = true
      · obtain ⟨f1, f2, f3⟩ := hF1 d y
        obtain ⟨_, _, _, a4, a5, a6, a7, _⟩ := h2 c hc z
        rw [(h1 d y).2.1] at e
        rw [e, f3] at a6
        exact absurd a6 (by decide)
      · exact h3 c d hc z hd y e
  · rcases h4 y hy with z | z
    · rw [z]
      rcases hF3 y hy with x | ⟨x, c, hc, ec⟩
      · exact Or.inl x
      · exact Or.inr ⟨x, c, (h1 c hc).1, by rw [(h1 c hc).2.1, ec]⟩
    · exact Or.inr z
/-- fill: a cell is added to the count -/
theorem qh_cup {L L' : Nat → Bool} {pk pv hk hv tk tv ho : Nat → Int32} {c : Nat} {k1 x1 k2 x2 : Int32} (h : qh_N ho (qh_T L pk pv hk hv tk tv)) (hc : c < 120) (hL : L c = false) (hL' : L' c = true) (hne : ∀ d, d ≠ c → L' d = L d)
    (b1 : qh_B k1 x1) (b2 : qh_B k2 x2) : qh_N (qh_h (qh_h ho k1 x1) k2 x2) (qh_T L' pk pv (upd hk c k1) (upd hv c x1) (upd tk c k2) (upd tv c x2)) := by
  have key : ∀ i, qh_T L' pk pv (upd hk c k1) (upd hv c x1) (upd tk c k2) (upd tv c x2) i = qh_T L pk pv hk hv tk tv i + qh_e k1 x1 i + qh_e k2 x2 i := fun i => by
    have a := qh_T1 (L := L) (L' := L') (pk := pk) (pv := pv) (hk := hk) (hv := hv) (tk := tk) (tv := tv) (hk' := upd hk c k1) (hv' := upd hv c x1) (tk' := upd tk c k2) (tv' := upd tv c x2) (d := c) i hc
      (fun d _ hd => qh_fe (hne d hd) (fun _ => ⟨pk_un hd, pk_un hd, pk_un hd, pk_un hd⟩))
    rw [qh_f0 hL, qh_f1 hL', pk_us, pk_us, pk_us, pk_us] at a
    omega
  exact qh_up (qh_up (N' := fun i => qh_T L pk pv hk hv tk tv i + qh_e k1 x1 i) h b1 (fun i _ => rfl)) b2 (fun i _ => key i)
theorem qr_Lup {m h : Nat → Nat} {p N c : Nat} (hp : p < 3) (hh : h p ≤ 1) (hN : m p + N ≤ 20) : qr_L (qn_u m p (m p + N)) h c = true ↔ (qr_L m h c = true ∨ (40 * p + 20 * h p + m p ≤ c ∧ c < 40 * p + 20 * h p + m p + N)) := by
  rw [qr_Li, qr_Li]
  by_cases e : c / 40 = p
  · rw [e, qn_us]
    omega
  · rw [qn_un e]
    omega
theorem i_vc_pair {k : Nat} {u : SX} {v : SY} (I : i_Rel k u v) (hk : k + 5 ≤ 2560) (v1 : Int32) (v2 : Int32) (v3 : Int32) (v4 : Int32) : wpX_pair (fun r u' => wpY_pair (fun r' v' => r' = r ∧ i_Rel (k + 5) u' v') v v1 v2 v3 v4) u v1 v2 v3 v4 := by
  obtain ⟨fl, pk, pv, wt, hf, us, hK, hv, tk, tv, fw, ho, li⟩ := u
  obtain ⟨kd, ct, ml, uy, rc, cp⟩ := v
  unfold wpX_pair wpY_pair
  dsimp only
  rcases qb_fit v1 v2 with ⟨P, R, hP, hR, rfl, rfl⟩ | ⟨hX, hY⟩
  rotate_left
  · exact hX _ (br_t rfl (hY _ (br_f (by decide) ⟨rfl, I⟩)))
  rcases qb_fit (nI P) v3 with ⟨P', S, hP', hS, _, rfl⟩ | ⟨hX, hY⟩
  rotate_left
  · exact qx_fit1 hP hR (br_f (by decide) (hX _ (br_t rfl (qy_bad0 hP hR (br_t rfl (hY _ (br_f (by decide) ⟨rfl, I⟩)))))))
  rcases qb_fit (nI P) v4 with ⟨P'', T, hP'', hT, _, rfl⟩ | ⟨hX, hY⟩
  rotate_left
  · exact qx_fit1 hP hR (br_f (by decide) (qx_fit1 hP hS (br_f (by decide) (hX _ (br_t rfl (qy_bad0 hP hR (br_t rfl (qy_bad0 hP hS (br_t rfl (hY _ (br_f (by decide) ⟨rfl, I⟩)))))))))))
  obtain ⟨φ0, m0, h0, w, hD0, hC0, hF0, hH0⟩ := qr_open I
  obtain ⟨r, φ, m, h, pv', hf', us', hk', hv', tk', tv', fw', ho', uy', rc', hD, hC, hF, hH, hr, WX, WY⟩ := qb_room (fl := fl) (li := li) (rc := rc) (cp := cp) 1 hD0 hC0 hF0 hH0 hP (by omega)
  simp only [qn_reg]
  refine qx_fit1 hP hR (br_f (by decide) (qx_fit1 hP hS (br_f (by decide) (qx_fit1 hP hT (br_f (by decide) (WX _ ?_))))))
  dsimp only
  rcases hr with rfl | ⟨rfl, hroom⟩
  · refine br_t rfl ?_
    exact qy_bad0 hP hR (br_t rfl (qy_bad0 hP hS (br_t rfl (qy_bad0 hP hT (br_t rfl (WY _ (br_t rfl ⟨by trivial, qr_mk φ m h w hD hC hF hH⟩)))))))
  · obtain ⟨d1, d2, d3, d4, d5, d6, d7⟩ := hD P hP
    have cnt := qr_cnt hD hC.2.2.2.2.2 hP
    obtain ⟨y, y1, y2, y3, WU⟩ := qy_unused (kd := kd) (ct := ct) (ml := ml) (uy := uy') (rc := rc') (cp := cp) hP (qy_free (by omega))
    obtain ⟨c, hc⟩ : ∃ c, c = 40 * P + 20 * h P + m P := ⟨_, rfl⟩
    have inS : vp_in (nI (4 * P + S)) 21 := vp_in_nI (by omega) (by decide)
    have inT : vp_in (nI (4 * P + T)) 21 := vp_in_nI (by omega) (by decide)
    have cS : (nI (4 * P + S)).toNatClampNeg = 4 * P + S := qn_c (by omega)
    have cT : (nI (4 * P + T)).toNatClampNeg = 4 * P + T := qn_c (by omega)
    have wS := hC.1 (4 * P + S) (by omega)
    have wT := hC.1 (4 * P + T) (by omega)
    have wR := hC.1 (4 * P + R) (by omega)
    have tS := hC.2.2.2.1 (4 * P + S) (by omega) (qr_thr hP hS)
    have tT := hC.2.2.2.1 (4 * P + T) (by omega) (qr_thr hP hT)
    have Lc : ∀ d, qr_L (qn_u m P (m P + 1)) h d = true ↔ (qr_L m h d = true ∨ d = c) := fun d => by
      rw [qr_Lup hP d2 hroom]
      have : (40 * P + 20 * h P + m P ≤ d ∧ d < 40 * P + 20 * h P + m P + 1) ↔ d = c := by omega
      rw [this]
    have Lf : qr_L m h c = false := Bool.eq_false_iff.mpr fun z => by
      have := qr_Li.mp z
      rw [show c / 40 = P by omega] at this
      omega
    have hcP : c / 40 = P := by omega
    have hyL : ∀ d, qr_L m h d = true → φ d ≠ y := fun d hd e => by
      have := (hC.2.2.2.2.2.1 d hd).2.2
      rw [e, y3] at this
      exact absurd this (by decide)
    have hdc : ∀ d, qr_L m h d = true → d ≠ c := fun d hd e => by
      rw [e, Lf] at hd
      exact absurd hd (by decide)
    refine br_f (by decide) (qx_fresh hP d6 d7 ?_)
    dsimp only
    rw [← hc]
    refine nm_e (nm_e ⟨inS, inS, inT, inT, ?_⟩)
    rw [cS, cT]
    refine qx_fill (by omega) (qr_TWB wS) (qr_TWB wT) (qx_assign (by omega) (qh_Bn (by decide)) (qr_TWB wR) ?_)
    dsimp only
    refine qy_bad0 hP hR (br_t rfl (qy_bad0 hP hS (br_t rfl (qy_bad0 hP hT (br_t rfl (WY _ (br_f (by decide) (WU _ ⟨vp_in_nI (by omega) (by decide), ?_⟩))))))))
    dsimp only
    rw [qn_c (a := y) (by omega), qn_21, qn_22, qn_b1]
    refine nm_e (qy_take (by omega) (by omega) (qy_take (by omega) (by omega) (qy_set (by omega) ⟨by trivial, ?_⟩)))
    have hC' : qr_C (qr_L (qn_u m P (m P + 1)) h) (qn_u φ c y) w pk pv' (upd hk' c (pk (4 * P + S))) (upd hv' c (pv' (4 * P + S))) (upd tk' c (pk (4 * P + T))) (upd tv' c (pv' (4 * P + T)))
        (upd (upd kd (21 + 2 * y) (kd (4 * P + S))) (22 + 2 * y) (upd kd (21 + 2 * y) (kd (4 * P + S)) (4 * P + T))) (upd (upd ct (21 + 2 * y) (ct (4 * P + S))) (22 + 2 * y) (upd ct (21 + 2 * y) (ct (4 * P + S)) (4 * P + T))) (upd uy' y 1) := by
      have tc : ∀ q k x k' z, qr_TW (qr_L m h) q k x → qr_TC φ k x k' z → qr_TC (qn_u φ c y) k x k' z := fun q k x k' z t c1 => qr_TCe c1 (fun e => by
        obtain ⟨d', f1, f2, f3⟩ := qr_TW2 t e
        have := (hC.2.1 d' f1).1
        rw [f3, qn_c (by omega)]
        exact qn_un (hdc d' f1))
      refine qr_grow hC (fun d hd => ?_) (fun d hd hn => ?_) (fun d e hd hn he hm _ => ?_) (fun z hz => ?_) (fun z hz h1 => ?_) (fun q hq => ?_)
      · have hne := hdc d hd
        have hφ := hyL d hd
        rw [pk_un hne, pk_un hne, pk_un hne, pk_un hne, pk_un (show 21 + 2 * φ d ≠ 22 + 2 * y by omega), pk_un (show 21 + 2 * φ d ≠ 22 + 2 * y by omega), pk_un (show 21 + 2 * φ d ≠ 21 + 2 * y by omega), pk_un (show 21 + 2 * φ d ≠ 21 + 2 * y by omega),
          pk_un (show 22 + 2 * φ d ≠ 22 + 2 * y by omega), pk_un (show 22 + 2 * φ d ≠ 22 + 2 * y by omega), pk_un (show 22 + 2 * φ d ≠ 21 + 2 * y by omega), pk_un (show 22 + 2 * φ d ≠ 21 + 2 * y by omega)]
        exact ⟨(Lc d).mpr (Or.inl hd), qn_un hne, rfl, rfl, rfl, rfl, rfl, rfl, rfl, rfl⟩
      · have e : d = c := ((Lc d).mp hd).elim (fun z => absurd z hn) id
        subst e
        rw [qr_owr hP hS] at wS
        rw [qr_owr hP hT] at wT
        rw [pk_us, pk_us, pk_us, pk_us, qn_us, pk_un (show 21 + 2 * y ≠ 22 + 2 * y by omega), pk_un (show 21 + 2 * y ≠ 22 + 2 * y by omega), pk_us, pk_us, pk_us, pk_us, pk_us, pk_un (show 4 * P + T ≠ 21 + 2 * y by omega), pk_un (show 4 * P + T ≠ 21 + 2 * y by omega), hcP]
        exact ⟨by omega, qr_TWm wS (fun d' h1 _ => (Lc d').mpr (Or.inl h1)), qr_TWm wT (fun d' h1 _ => (Lc d').mpr (Or.inl h1)), by omega, by omega, y3, rfl, tc _ _ _ _ _ wS tS, tc _ _ _ _ _ wT tT⟩
      · have e1 : d = c := ((Lc d).mp hd).elim (fun z => absurd z hn) id
        have e2 : e = c := ((Lc e).mp he).elim (fun z => absurd z hm) id
        rw [e1, e2]
      · by_cases e : z = y
        · rw [e, pk_us]
          exact Or.inr ⟨rfl, c, (Lc c).mpr (Or.inr rfl), qn_us⟩
        · rw [pk_un e]
          exact Or.inl rfl
      · by_cases e : z = y
        · rw [e, pk_us]
        · rw [pk_un e]
          exact h1
      · rw [pk_un (by omega), pk_un (by omega), pk_un (by omega), pk_un (by omega)]
        exact ⟨rfl, rfl⟩
    have hH' := qh_cup (L' := qr_L (qn_u m P (m P + 1)) h) hH (show c < 120 by omega) Lf ((Lc c).mpr (Or.inr rfl)) (fun d hd => by
      apply Bool.eq_iff_iff.mpr
      rw [Lc]
      exact ⟨fun z => z.elim id (fun y => absurd y hd), Or.inl⟩) (qr_TWB wS) (qr_TWB wT)
    refine qr_mk (qn_u φ c y) (qn_u m P (m P + 1)) h w (fun q hq => ?_) (qr_as hC' (by omega) (qr_thr hP hR) ?_ ?_) hF (qh_as hH' (by omega) (qh_Bn (by decide)) (qr_TWB wR))
    · obtain ⟨f1, f2, f3, f4, f5, f6, f7⟩ := hD q hq
      by_cases e : q = P
      · rw [e] at f2 f3 f4 f5 f6
        rw [e, pk_us, qn_us]
        exact ⟨by omega, f2, f3, f4, f5, f6, rfl⟩
      · rw [pk_un e, qn_un e]
        exact ⟨f1, f2, f3, f4, f5, f6, f7⟩
    · rw [qr_owr hP hR]
      exact Or.inr (Or.inr (Or.inl ⟨rfl, c, (Lc c).mpr (Or.inr rfl), hcP, rfl⟩))
    · refine ⟨rfl, fun _ => ?_, fun z => absurd z (by decide), fun z => absurd z (by decide)⟩
      rw [qn_c (by omega), qn_us]
end
section
/-! listPairs -/
def qe_I (Q : Nat → Prop) (N : Nat) (g : Nat → Nat) (fw li : Nat → Int32) : Prop :=
  N ≤ 20 ∧ (∀ i, i < N → Q (g i) ∧ fw (g i) = nI (g i) ∧ li i = nI (g i)) ∧ (∀ c, c < 120 → fw c = -1 ∨ ∃ i, i < N ∧ g i = c) ∧ (∀ i j, i < N → j < N → g i = g j → i = j)
/-- a term is in the list, if it is a pair -/
def qe_T (N : Nat) (g : Nat → Nat) (k x : Int32) : Prop := k = 2 → ∃ i, i < N ∧ x = nI (g i)
theorem qe_Tm {N N' : Nat} {g g' : Nat → Nat} {k x : Int32} (h : qe_T N g k x) (hN : N ≤ N') (hg : ∀ i, i < N → g' i = g i) : qe_T N' g' k x := fun e => by
  obtain ⟨i, h1, h2⟩ := h e
  exact ⟨i, by omega, by rw [hg i h1]; exact h2⟩
def qe_C (hk hv tk tv : Nat → Int32) (s N : Nat) (g : Nat → Nat) : Prop := ∀ i, i < s → qe_T N g (hk (g i)) (hv (g i)) ∧ qe_T N g (tk (g i)) (tv (g i))
theorem qe_Cm {hk hv tk tv : Nat → Int32} {s N N' : Nat} {g g' : Nat → Nat} (h : qe_C hk hv tk tv s N g) (hs : s ≤ N) (hN : N ≤ N') (hg : ∀ i, i < N → g' i = g i) : qe_C hk hv tk tv s N' g' := fun i hi => by
  rw [hg i (by omega)]
  exact ⟨qe_Tm (h i hi).1 hN hg, qe_Tm (h i hi).2 hN hg⟩
section
variable {pk pv wt hf us hk hv tk tv ho : Nat → Int32} {Q : Nat → Prop} {o M : Nat}
theorem qe_enl {fw li : Nat → Int32} {N : Nat} {g : Nat → Nat} {k x : Int32} (hQ : ∀ c, Q c → o ≤ c ∧ c < o + M ∧ c < 120) (hM : M ≤ 20) (I : qe_I Q N g fw li) (hx : k = 2 → ∃ d, x = nI d ∧ Q d) :
    ∃ (N' : Nat) (g' : Nat → Nat) (fw' li' : Nat → Int32), qe_I Q N' g' fw' li' ∧ N ≤ N' ∧ (∀ i, i < N → g' i = g i) ∧ qe_T N' g' k x ∧
      ∀ post : SX → Prop, post (nI N', pk, pv, wt, hf, us, hk, hv, tk, tv, fw', ho, li') → wpX_enlist post (nI N, pk, pv, wt, hf, us, hk, hv, tk, tv, fw, ho, li) k x := by
  have I0 := I
  obtain ⟨n1, i1, i2, i3⟩ := I
  by_cases e : k = 2
  · obtain ⟨d, rfl, hd⟩ := hx e
    obtain ⟨q1, q2, q3⟩ := hQ d hd
    by_cases f : fw d = -1
    · have hne : ∀ i, i < N → g i ≠ d := fun i hi z => by
        have a := (i1 i hi).2.1
        rw [z, f] at a
        exact absurd a.symm (qn_neg (by omega))
      have hg : ∀ i, i < N → qn_u g N d i = g i := fun i hi => qn_un (by omega)
      have inj' : ∀ i j, i < N + 1 → j < N + 1 → qn_u g N d i = qn_u g N d j → i = j := fun i j hi hj z => by
        by_cases a : i = N
        · by_cases b : j = N
          · omega
          · rw [a, qn_us, qn_un b] at z
            exact absurd z.symm (hne j (by omega))
        · by_cases b : j = N
          · rw [b, qn_us, qn_un a] at z
            exact absurd z (hne i (by omega))
          · rw [qn_un a, qn_un b] at z
            exact i3 i j (by omega) (by omega) z
      have room : N + 1 ≤ M := qs_php (fun i => qn_u g N d i - o) (fun i hi => by
        show qn_u g N d i - o < M
        by_cases a : i = N
        · rw [a, qn_us]
          omega
        · rw [qn_un a]
          have := hQ _ (i1 i (by omega)).1
          omega) (fun i j hi hj z => by
        have z' : qn_u g N d i - o = qn_u g N d j - o := z
        refine inj' i j hi hj ?_
        have o1 : o ≤ qn_u g N d i := by
          by_cases a : i = N
          · rw [a, qn_us]
            exact q1
          · rw [qn_un a]
            exact (hQ _ (i1 i (by omega)).1).1
        have o2 : o ≤ qn_u g N d j := by
          by_cases a : j = N
          · rw [a, qn_us]
            exact q1
          · rw [qn_un a]
            exact (hQ _ (i1 j (by omega)).1).1
        omega)
      refine ⟨N + 1, qn_u g N d, upd fw d (nI d), upd li N (nI d), ⟨by omega, fun i hi => ?_, fun c hc => ?_, inj'⟩, by omega, hg, fun _ => ⟨N, by omega, by rw [qn_us]⟩, fun post h => qx_enl2 e q3 f (by omega) h⟩
      · by_cases a : i = N
        · rw [a, qn_us, pk_us, pk_us]
          exact ⟨hd, rfl, rfl⟩
        · rw [qn_un a, pk_un (hne i (by omega)), pk_un a]
          exact i1 i (by omega)
      · by_cases a : c = d
        · exact Or.inr ⟨N, by omega, by rw [qn_us, a]⟩
        · rw [pk_un a]
          rcases i2 c hc with z | ⟨i, z1, z2⟩
          · exact Or.inl z
          · exact Or.inr ⟨i, by omega, by rw [hg i z1, z2]⟩
    · rcases i2 d q3 with z | ⟨i, z1, z2⟩
      · exact absurd z f
      · have fd := (i1 i z1).2.1
        rw [z2] at fd
        exact ⟨N, g, fw, li, I0, Nat.le_refl N, fun _ _ => rfl, fun _ => ⟨i, z1, by rw [z2]⟩, fun post h => qx_enl1 e q3 q3 fd h⟩
  · exact ⟨N, g, fw, li, I0, Nat.le_refl N, fun _ _ => rfl, fun z => absurd z e, fun post h => qx_enl0 e h⟩
theorem qe_loop (hQ : ∀ c, Q c → o ≤ c ∧ c < o + M ∧ c < 120) (hM : M ≤ 20) (hQh : ∀ c, Q c → hk c = 2 → ∃ d, hv c = nI d ∧ Q d) (hQt : ∀ c, Q c → tk c = 2 → ∃ d, tv c = nI d ∧ Q d) :
    ∀ (d s N : Nat) (g : Nat → Nat) (fw li : Nat → Int32), s + d = 20 → s ≤ N → qe_I Q N g fw li → qe_C hk hv tk tv s N g →
    ∃ (N' : Nat) (g' : Nat → Nat) (fw' li' : Nat → Int32), qe_I Q N' g' fw' li' ∧ N ≤ N' ∧ (∀ i, i < N → g' i = g i) ∧ qe_C hk hv tk tv N' N' g' ∧
      ∀ (post : SX → Prop) (n : Nat), d < n → wX_listPairs_82 post (nI N') pk pv wt hf us hk hv tk tv fw' ho li' → wX_listPairs_23 post n (nI s) (nI N) pk pv wt hf us hk hv tk tv fw ho li := by
  intro d
  induction d with
  | zero =>
    intro s N g fw li hs hsN I hC
    have n1 := I.1
    have e : s = N := by omega
    subst e
    refine ⟨s, g, fw, li, I, Nat.le_refl s, fun _ _ => rfl, hC, fun post n hn h => ?_⟩
    cases n with
    | zero => omega
    | succ n => exact br_t (nI_le (Nat.le_refl s) (by omega)) h
  | succ d ih =>
    intro s N g fw li hs hsN I hC
    have n1 := I.1
    by_cases e : s < N
    · obtain ⟨q1, q2, q3⟩ := I.2.1 s e
      obtain ⟨r1, r2, r3⟩ := hQ _ q1
      obtain ⟨N1, g1, fw1, li1, I1, l1, x1, t1, W1⟩ := qe_enl (pk := pk) (pv := pv) (wt := wt) (hf := hf) (us := us) (hk := hk) (hv := hv) (tk := tk) (tv := tv) (ho := ho) hQ hM I (hQh _ q1)
      obtain ⟨N2, g2, fw2, li2, I2, l2, x2, t2, W2⟩ := qe_enl (pk := pk) (pv := pv) (wt := wt) (hf := hf) (us := us) (hk := hk) (hv := hv) (tk := tk) (tv := tv) (ho := ho) hQ hM I1 (hQt _ q1)
      have x12 : ∀ i, i < N → g2 i = g i := fun i hi => by rw [x2 i (by omega), x1 i hi]
      obtain ⟨N3, g3, fw3, li3, I3, l3, x3, c3, W3⟩ := ih (s + 1) N2 g2 fw2 li2 (by omega) (by omega) I2 (fun i hi => by
        by_cases z : i = s
        · rw [z, x12 s e]
          exact ⟨qe_Tm t1 l2 x2, t2⟩
        · exact qe_Cm hC hsN (by omega) x12 i (by omega))
      refine ⟨N3, g3, fw3, li3, I3, by omega, fun i hi => by rw [x3 i (by omega), x12 i hi], c3, fun post n hn h => ?_⟩
      cases n with
      | zero => omega
      | succ n =>
        have z := W3 post n (by omega) h
        have ig : vp_in (nI (g s)) 120 := vp_in_nI r3 (by decide)
        unfold wX_listPairs_23
        rw [qn_c (a := s) (by omega), q3, nI_1]
        refine br_f (nI_ge e (by omega)) (br_f (nI_ge (b := 20) (by omega) (by decide)) ⟨vp_in_nI (by omega) (by decide), nm_e ⟨ig, ig, ?_⟩⟩)
        rw [qn_c (a := g s) (by omega)]
        exact W1 _ ⟨ig, ig, W2 _ (nm_e z)⟩
    · have e' : s = N := by omega
      subst e'
      refine ⟨s, g, fw, li, I, Nat.le_refl s, fun _ _ => rfl, hC, fun post n hn h => ?_⟩
      cases n with
      | zero => omega
      | succ n => exact br_t (nI_le (Nat.le_refl s) (by omega)) h
theorem qe_list {fl : Int32} {fw li : Nat → Int32} {j : Nat} (hj : j < 21) (hF : ∀ c, c < 120 → fw c = -1) (hQ : ∀ c, Q c → o ≤ c ∧ c < o + M ∧ c < 120) (hM : M ≤ 20) (hQr : pk j = 2 → ∃ d, pv j = nI d ∧ Q d)
    (hQh : ∀ c, Q c → hk c = 2 → ∃ d, hv c = nI d ∧ Q d) (hQt : ∀ c, Q c → tk c = 2 → ∃ d, tv c = nI d ∧ Q d) :
    ∃ (N : Nat) (g : Nat → Nat) (fw' li' : Nat → Int32), N ≤ 20 ∧ (∀ i, i < N → Q (g i) ∧ li' i = nI (g i)) ∧ (∀ i j, i < N → j < N → g i = g j → i = j) ∧ qe_T N g (pk j) (pv j) ∧ qe_C hk hv tk tv N N g ∧
      (∀ c, c < 120 → fw' c = -1) ∧ ∀ post : SX → Prop, post (nI N, pk, pv, wt, hf, us, hk, hv, tk, tv, fw', ho, li') → wpX_listPairs post (fl, pk, pv, wt, hf, us, hk, hv, tk, tv, fw, ho, li) (nI j) := by
  obtain ⟨N1, g1, fw1, li1, I1, l1, x1, t1, W1⟩ := qe_enl (pk := pk) (pv := pv) (wt := wt) (hf := hf) (us := us) (hk := hk) (hv := hv) (tk := tk) (tv := tv) (ho := ho) (fw := fw) (li := li) (N := 0) (g := fun _ => 0) hQ hM
    ⟨by omega, fun i hi => by omega, fun c hc => Or.inl (hF c hc), fun i j hi => by omega⟩ hQr
  obtain ⟨N, g, fw2, li2, I2, l2, x2, c2, W2⟩ := qe_loop (pk := pk) (pv := pv) (wt := wt) (hf := hf) (us := us) (ho := ho) hQ hM hQh hQt 20 0 N1 g1 fw1 li1 rfl (by omega) I1 (fun i hi => by omega)
  obtain ⟨n1, i1, i2, i3⟩ := I2
  obtain ⟨fw3, f1, W3⟩ := qx_forg (pk := pk) (pv := pv) (wt := wt) (hf := hf) (us := us) (hk := hk) (hv := hv) (tk := tk) (tv := tv) (ho := ho) (fw := fw2) (li := li2) (N := N) (g := g) n1
    (fun i hi => ⟨(hQ _ (i1 i hi).1).2.2, (i1 i hi).2.2⟩) i2
  refine ⟨N, g, fw3, li2, n1, fun i hi => ⟨(i1 i hi).1, (i1 i hi).2.2⟩, i3, qe_Tm t1 l2 x2, c2, f1, fun post h => ?_⟩
  have hin : vp_in (nI j) 21 := vp_in_nI hj (by decide)
  unfold wpX_listPairs
  dsimp only
  rw [qn_c (a := j) (by omega)]
  refine ⟨hin, hin, W1 _ (Exists.intro 21 (W2 post 21 (by omega) ?_))⟩
  exact W3 _ h
end
/-! list and mark -/
def ql_Q (j : Nat) (pk pv hk hv tk tv : Nat → Int32) (c : Nat) : Prop := ∀ A : Nat → Prop, (pk j = 2 → ∀ d, d < 120 → pv j = nI d → A d) →
  (∀ c, A c → (hk c = 2 → ∀ d, d < 120 → hv c = nI d → A d) ∧ (tk c = 2 → ∀ d, d < 120 → tv c = nI d → A d)) → A c
def ql_R (f : Nat) (kd ct : Nat → Int32) (y : Nat) : Prop := ∀ A : Nat → Prop, (kd f = 2 → ∀ d, d < 60 → ct f = nI d → A d) →
  (∀ q, 21 ≤ q → q < 141 → A ((q - 21) / 2) → kd q = 2 → ∀ d, d < 60 → ct q = nI d → A d) → A y
theorem qb_list {fl : Int32} {pk pv wt hf us hk hv tk tv fw ho li kd ct ml uy rc cp : Nat → Int32} {φ m h w : Nat → Nat} {j : Nat} (hD : qr_D m h w wt hf us ml)
    (hC : qr_C (qr_L m h) φ w pk pv hk hv tk tv kd ct uy) (hF : ∀ c, c < 120 → fw c = -1) (hj : j < 12) :
    ∃ (N : Nat) (g : Nat → Nat) (fw' li' rc' : Nat → Int32), N ≤ 20 ∧ (∀ i, i < N → qr_L m h (g i) = true ∧ g i / 40 = qr_ow j ∧ li' i = nI (g i)) ∧ (∀ i k, i < N → k < N → g i = g k → i = k) ∧ qe_T N g (pk j) (pv j) ∧
      qe_C hk hv tk tv N N g ∧ (∀ c, c < 120 → fw' c = -1) ∧ (∀ y, y < 60 → (¬ rc' y = 0 ↔ ∃ i, i < N ∧ φ (g i) = y)) ∧ (∀ y, y < 60 → (¬ rc' y = 0 ↔ ql_R j kd ct y)) ∧
      qs_s (fun i => if rc' i = 0 then 0 else 1) 60 = N ∧
      (∀ post : SX → Prop, post (nI N, pk, pv, wt, hf, us, hk, hv, tk, tv, fw', ho, li') → wpX_listPairs post (fl, pk, pv, wt, hf, us, hk, hv, tk, tv, fw, ho, li) (nI j)) ∧
      (∀ post : SY → Prop, post (kd, ct, ml, uy, rc', cp) → wpY_mark post (kd, ct, ml, uy, rc, cp) (nI j)) := by
  obtain ⟨hXP, hXC, hXN, hYP, hYC, hF1, hF2, hF3⟩ := hC
  have how : qr_ow j < 3 := qr_ow3 (by omega)
  obtain ⟨d1, d2, _⟩ := hD _ how
  have tw := hXP j (by omega)
  obtain ⟨t0, t2, _⟩ := hYP j (by omega) (Or.inl hj)
  have hQ : ∀ c, ql_Q j pk pv hk hv tk tv c → qr_L m h c = true ∧ c / 40 = qr_ow j := fun c hc => hc (fun c => qr_L m h c = true ∧ c / 40 = qr_ow j) (fun j3 d e1 e2 => by
    obtain ⟨d', f1, f2, f3⟩ := qr_TW2 tw j3
    have f4 := (hXC d' f1).1
    rw [f3] at e2
    rw [← qn_inj (by omega) (by omega) e2]
    exact ⟨f1, f2⟩) (fun c hc => by
    obtain ⟨c1, c2⟩ := hc
    obtain ⟨_, t1, t2⟩ := hXC c c1
    rw [c2] at t1 t2
    constructor
    · intro j3 d e1 e2
      obtain ⟨d', f1, f2, f3⟩ := qr_TW2 t1 j3
      have f4 := (hXC d' f1).1
      rw [f3] at e2
      rw [← qn_inj (by omega) (by omega) e2]
      exact ⟨f1, f2⟩
    · intro j3 d e1 e2
      obtain ⟨d', f1, f2, f3⟩ := qr_TW2 t2 j3
      have f4 := (hXC d' f1).1
      rw [f3] at e2
      rw [← qn_inj (by omega) (by omega) e2]
      exact ⟨f1, f2⟩)
  obtain ⟨N, g, fw', li', n1, gQ, ginj, gT, gC, gF, WX⟩ := qe_list (fl := fl) (wt := wt) (hf := hf) (us := us) (ho := ho) (li := li) (Q := ql_Q j pk pv hk hv tk tv) (o := 40 * qr_ow j + 20 * h (qr_ow j)) (M := m (qr_ow j)) (show j < 21 by omega) hF
    (fun c hc => by
      obtain ⟨q1, q2⟩ := hQ c hc
      have := qr_Li.mp q1
      rw [q2] at this
      exact ⟨this.2.1, this.2.2, this.1⟩) d1 (fun e => by
      obtain ⟨d', f1, f2, f3⟩ := qr_TW2 tw e
      exact ⟨d', f3, fun A a1 a2 => a1 e d' (hXC d' f1).1 f3⟩) (fun c hc e => by
      obtain ⟨d', f1, f2, f3⟩ := qr_TW2 (hXC c (hQ c hc).1).2.1 e
      exact ⟨d', f3, fun A a1 a2 => (a2 c (hc A a1 a2)).1 e d' (hXC d' f1).1 f3⟩) (fun c hc e => by
      obtain ⟨d', f1, f2, f3⟩ := qr_TW2 (hXC c (hQ c hc).1).2.2 e
      exact ⟨d', f3, fun A a1 a2 => (a2 c (hc A a1 a2)).2 e d' (hXC d' f1).1 f3⟩)
  have gL : ∀ i, i < N → qr_L m h (g i) = true ∧ g i / 40 = qr_ow j ∧ g i < 120 := fun i hi => by
    obtain ⟨a, b⟩ := hQ _ (gQ i hi).1
    exact ⟨a, b, (hXC _ a).1⟩
  -- phi(g) is closed in Y and holds the root
  have Ar : kd j = 2 → ∃ d, d < 60 ∧ ct j = nI d ∧ ∃ i, i < N ∧ φ (g i) = d := fun e => by
    have e' := t0.symm.trans e
    obtain ⟨i, i1, i2⟩ := gT e'
    have := t2 e'
    rw [i2, qn_c (by have := gL i i1; omega)] at this
    exact ⟨φ (g i), (hF1 _ (gL i i1).1).1, this, i, i1, rfl⟩
  have Ac : qy_A (fun y => ∃ i, i < N ∧ φ (g i) = y) kd ct := fun q q1 q2 => by
    rintro ⟨i, i1, i2⟩ q3
    obtain ⟨l1, l2, l3⟩ := gL i i1
    obtain ⟨⟨t0, t2, _⟩, ⟨s0, s2, _⟩⟩ := hYC _ l1
    obtain ⟨c3, c5⟩ := gC i i1
    rcases qr_cell i2.symm q1 with e | e
    · rw [e] at q3
      have e' := t0.symm.trans q3
      obtain ⟨k, k1, k2⟩ := c3 e'
      have := t2 e'
      rw [k2, qn_c (by have := gL k k1; omega)] at this
      rw [e]
      exact ⟨φ (g k), (hF1 _ (gL k k1).1).1, this, k, k1, rfl⟩
    · rw [e] at q3
      have e' := s0.symm.trans q3
      obtain ⟨k, k1, k2⟩ := c5 e'
      have := s2 e'
      rw [k2, qn_c (by have := gL k k1; omega)] at this
      rw [e]
      exact ⟨φ (g k), (hF1 _ (gL k k1).1).1, this, k, k1, rfl⟩
  obtain ⟨rc', yA, yr, yc, WY⟩ := qy_mark (ml := ml) (uy := uy) (cp := cp) (rc := rc) (A := fun y => ∃ i, i < N ∧ φ (g i) = y) (show j < 141 by omega) Ar Ac
  have yg : ∀ i, i < N → ¬ rc' (φ (g i)) = 0 := fun i hi => by
    refine ((gQ i hi).1 (fun c => qr_L m h c = true ∧ ¬ rc' (φ c) = 0) (fun j3 d e1 e2 => ?_) (fun c hc => ?_)).2
    · obtain ⟨d', f1, f2, f3⟩ := qr_TW2 tw j3
      have f4 := (hXC d' f1).1
      have e3 := e2
      rw [f3] at e3
      rw [← qn_inj (by omega) (by omega) e3]
      have t3 := t2 j3
      rw [f3, qn_c (by omega)] at t3
      exact ⟨f1, yr (t0.trans j3) _ (hF1 _ f1).1 t3⟩
    · obtain ⟨c1, c2⟩ := hc
      obtain ⟨_, t1, t2⟩ := hXC c c1
      obtain ⟨⟨s0, s2, _⟩, ⟨r0, r2, _⟩⟩ := hYC c c1
      have p60 := (hF1 c c1).1
      constructor
      · intro j3 d e1 e2
        obtain ⟨d', f1, f2, f3⟩ := qr_TW2 t1 j3
        have f4 := (hXC d' f1).1
        rw [f3] at e2
        rw [← qn_inj (by omega) (by omega) e2]
        have s3 := s2 j3
        rw [f3, qn_c (by omega)] at s3
        refine ⟨f1, yc (21 + 2 * φ c) (by omega) (by omega) ?_ (s0.trans j3) _ (hF1 _ f1).1 s3⟩
        rw [show (21 + 2 * φ c - 21) / 2 = φ c by omega]
        exact c2
      · intro j3 d e1 e2
        obtain ⟨d', f1, f2, f3⟩ := qr_TW2 t2 j3
        have f4 := (hXC d' f1).1
        rw [f3] at e2
        rw [← qn_inj (by omega) (by omega) e2]
        have s3 := r2 j3
        rw [f3, qn_c (by omega)] at s3
        refine ⟨f1, yc (22 + 2 * φ c) (by omega) (by omega) ?_ (r0.trans j3) _ (hF1 _ f1).1 s3⟩
        rw [show (22 + 2 * φ c - 21) / 2 = φ c by omega]
        exact c2
  have yiff : ∀ y, y < 60 → (¬ rc' y = 0 ↔ ∃ i, i < N ∧ φ (g i) = y) := fun y hy => ⟨yA y hy, fun ⟨i, i1, i2⟩ => by rw [← i2]; exact yg i i1⟩
  have φinj : ∀ i k, i < N → k < N → φ (g i) = φ (g k) → i = k := fun i k hi hk e => ginj i k hi hk (hF2 _ _ (gL i hi).1 (gL k hk).1 e)
  refine ⟨N, g, fw', li', rc', n1, fun i hi => ⟨(gL i hi).1, (gL i hi).2.1, (gQ i hi).2⟩, ginj, gT, gC, gF, yiff, fun y hy => ⟨fun hn A a1 a2 => ?_, fun hR => ?_⟩, ?_, WX, WY⟩
  · -- reached implies in every closed set: through X's list
    obtain ⟨i, i1, i2⟩ := (yiff y hy).mp hn
    rw [← i2]
    refine ((gQ i i1).1 (fun c => qr_L m h c = true ∧ A (φ c)) (fun j3 d e1 e2 => ?_) (fun c hc => ?_)).2
    · obtain ⟨d', f1, f2, f3⟩ := qr_TW2 tw j3
      have f4 := (hXC d' f1).1
      have e3 := e2
      rw [f3] at e3
      rw [← qn_inj (by omega) (by omega) e3]
      have t3 := t2 j3
      rw [f3, qn_c (by omega)] at t3
      exact ⟨f1, a1 (t0.trans j3) _ (hF1 _ f1).1 t3⟩
    · obtain ⟨c1, c2⟩ := hc
      obtain ⟨_, t1, t2⟩ := hXC c c1
      obtain ⟨⟨s0, s2, _⟩, ⟨r0, r2, _⟩⟩ := hYC c c1
      have p60 := (hF1 c c1).1
      constructor
      · intro j3 d e1 e2
        obtain ⟨d', f1, f2, f3⟩ := qr_TW2 t1 j3
        have f4 := (hXC d' f1).1
        rw [f3] at e2
        rw [← qn_inj (by omega) (by omega) e2]
        have s3 := s2 j3
        rw [f3, qn_c (by omega)] at s3
        refine ⟨f1, a2 (21 + 2 * φ c) (by omega) (by omega) ?_ (s0.trans j3) _ (hF1 _ f1).1 s3⟩
        rw [show (21 + 2 * φ c - 21) / 2 = φ c by omega]
        exact c2
      · intro j3 d e1 e2
        obtain ⟨d', f1, f2, f3⟩ := qr_TW2 t2 j3
        have f4 := (hXC d' f1).1
        rw [f3] at e2
        rw [← qn_inj (by omega) (by omega) e2]
        have s3 := r2 j3
        rw [f3, qn_c (by omega)] at s3
        refine ⟨f1, a2 (22 + 2 * φ c) (by omega) (by omega) ?_ (r0.trans j3) _ (hF1 _ f1).1 s3⟩
        rw [show (22 + 2 * φ c - 21) / 2 = φ c by omega]
        exact c2
  · exact hR (fun y => ¬ rc' y = 0) (fun e d e1 e2 => yr e d e1 e2) (fun q q1 q2 q3 q4 d e1 e2 => yc q q1 q2 q3 q4 d e1 e2)
  · refine qs_bij N _ (fun i => φ (g i)) (fun i hi => ⟨(hF1 _ (gL i hi).1).1, ?_⟩) φinj (fun y hy => ?_)
    · show (if rc' (φ (g i)) = 0 then 0 else 1) = 1
      rw [if_neg (yg i hi)]
    · show (if rc' y = 0 then 0 else 1) = 0 ∨ ((if rc' y = 0 then 0 else 1) = 1 ∧ _)
      by_cases e : rc' y = 0
      · exact Or.inl (if_pos e)
      · exact Or.inr ⟨if_neg e, (yiff y hy).mp e⟩
end
section
/-! copyListed -/
theorem qk_TB {b N : Nat} {g : Nat → Nat} {k x0 x : Int32} (h : qk_T b N g k x0 x) (hb : qh_B k x0) : qh_B k x := fun e => by
  rw [h.2 (fun z => absurd (z.symm.trans e) (by decide))]
  exact hb e
section
variable {pk pv wt hf li : Nat → Int32} {p a M N : Nat} {g : Nat → Nat}
theorem qc_loop2 {hk hv tk tv ho fw0 us0 : Nat → Int32} (hp : p < 3) (ha : hf p = nI a) (ha1 : a ≤ 1) (hN : N ≤ 20) (hM : M + N ≤ 20) (hg : ∀ i, i < N → g i < 120 ∧ li i = nI (g i)) (ginj : ∀ i j, i < N → j < N → g i = g j → i = j) :
    ∀ (d k : Nat) (us fw : Nat → Int32), k + d = N → us p = nI (M + k) → (∀ q, q ≠ p → us q = us0 q) → (∀ i, i < k → fw (g i) = nI (40 * p + 20 * a + M + i)) → (∀ c, (∀ i, i < k → g i ≠ c) → fw c = fw0 c) →
    ∃ us' fw' : Nat → Int32, us' p = nI (M + N) ∧ (∀ q, q ≠ p → us' q = us0 q) ∧ (∀ i, i < N → fw' (g i) = nI (40 * p + 20 * a + M + i)) ∧ (∀ c, (∀ i, i < N → g i ≠ c) → fw' c = fw0 c) ∧
      ∀ (post : SX → Prop) (n : Nat), d < n → (∃ n34, wX_copyListed_34 post n34 0 (nI N) pk pv wt hf us' hk hv tk tv fw' ho li) → wX_copyListed_2 post (nI p) n (nI k) (nI N) pk pv wt hf us hk hv tk tv fw ho li := by
  intro d
  induction d with
  | zero =>
    intro k us fw hk hu1 hu2 h1 h2
    have e : k = N := by omega
    subst e
    refine ⟨us, fw, hu1, hu2, h1, h2, fun post n hn h => ?_⟩
    cases n with
    | zero => omega
    | succ n => exact br_t (nI_le (Nat.le_refl k) (by omega)) h
  | succ d ih =>
    intro k us fw hk hu1 hu2 h1 h2
    obtain ⟨g1, g2⟩ := hg k (by omega)
    obtain ⟨us', fw', a1, a2, a3, a4, W⟩ := ih (k + 1) (upd us p (nI (M + k + 1))) (upd fw (g k) (nI (40 * p + 20 * a + M + k))) (by omega) pk_us (fun q hq => by rw [pk_un hq]; exact hu2 q hq) (fun i hi => by
      by_cases e : i = k
      · rw [e, pk_us]
      · rw [pk_un (fun z => e (ginj i k (by omega) (by omega) z))]
        exact h1 i (by omega)) (fun c hc => by
      rw [pk_un (fun z => hc k (by omega) z.symm)]
      exact h2 c (fun i hi => hc i (by omega)))
    refine ⟨us', fw', a1, a2, a3, a4, fun post n hn h => ?_⟩
    cases n with
    | zero => omega
    | succ n =>
      have z := W post n (by omega) h
      unfold wX_copyListed_2
      rw [qn_c (a := k) (by omega), nI_1]
      refine br_f (nI_ge (by omega) (by omega)) ⟨vp_in_nI (by omega) (by decide), qx_fresh hp ha hu1 ?_⟩
      dsimp only
      rw [g2, qn_c (a := g k) (by omega)]
      refine ⟨vp_in_nI g1 (by decide), nm_e (nm_e ?_)⟩
      rw [show 40 * p + 20 * a + (M + k) = 40 * p + 20 * a + M + k by omega]
      exact z
/-- the copies are filled -/
theorem qc_loop34 {L : Nat → Bool} {us fw hk0 hv0 tk0 tv0 : Nat → Int32} {b : Nat} (hN : N ≤ 20) (hb : b + N ≤ 120) (hg : ∀ i, i < N → g i < 120 ∧ li i = nI (g i)) (hf1 : ∀ i, i < N → fw (g i) = nI (b + i))
    (hL : ∀ c, b ≤ c → c < b + N → L c = false) (hgL : ∀ i, i < N → L (g i) = true) (hC : qe_C hk0 hv0 tk0 tv0 N N g) (hB : ∀ i, i < N → qh_B (hk0 (g i)) (hv0 (g i)) ∧ qh_B (tk0 (g i)) (tv0 (g i))) :
    ∀ (d k : Nat) (hk hv tk tv ho : Nat → Int32), k + d = N → (∀ c, ¬ (b ≤ c ∧ c < b + N) → hk c = hk0 c ∧ hv c = hv0 c ∧ tk c = tk0 c ∧ tv c = tv0 c) →
    (∀ i, i < k → hk (b + i) = hk0 (g i) ∧ tk (b + i) = tk0 (g i) ∧ qk_T b N g (hk0 (g i)) (hv0 (g i)) (hv (b + i)) ∧ qk_T b N g (tk0 (g i)) (tv0 (g i)) (tv (b + i))) →
    qh_N ho (qh_T (fun c => L c || decide (b ≤ c ∧ c < b + k)) pk pv hk hv tk tv) →
    ∃ hk' hv' tk' tv' ho' : Nat → Int32, (∀ c, ¬ (b ≤ c ∧ c < b + N) → hk' c = hk0 c ∧ hv' c = hv0 c ∧ tk' c = tk0 c ∧ tv' c = tv0 c) ∧
      (∀ i, i < N → hk' (b + i) = hk0 (g i) ∧ tk' (b + i) = tk0 (g i) ∧ qk_T b N g (hk0 (g i)) (hv0 (g i)) (hv' (b + i)) ∧ qk_T b N g (tk0 (g i)) (tv0 (g i)) (tv' (b + i))) ∧
      qh_N ho' (qh_T (fun c => L c || decide (b ≤ c ∧ c < b + N)) pk pv hk' hv' tk' tv') ∧
      ∀ (post : SX → Prop) (n : Nat), d < n → post (nI N, pk, pv, wt, hf, us, hk', hv', tk', tv', fw, ho', li) → wX_copyListed_34 post n (nI k) (nI N) pk pv wt hf us hk hv tk tv fw ho li := by
  intro d
  induction d with
  | zero =>
    intro k hk hv tk tv ho hkN h1 h2 hH
    have e : k = N := by omega
    subst e
    refine ⟨hk, hv, tk, tv, ho, h1, h2, hH, fun post n hn h => ?_⟩
    cases n with
    | zero => omega
    | succ n => exact br_t (nI_le (Nat.le_refl k) (by omega)) h
  | succ d ih =>
    intro k hk hv tk tv ho hkN h1 h2 hH
    obtain ⟨g1, g2⟩ := hg k (by omega)
    have hgk : ∀ i, i < N → ¬ (b ≤ g i ∧ g i < b + N) := fun i hi z => by
      have a := hL (g i) z.1 z.2
      rw [hgL i hi] at a
      exact absurd a (by decide)
    obtain ⟨s1, s2, s3, s4⟩ := h1 (g k) (hgk k (by omega))
    obtain ⟨b1, b2⟩ := hB k (by omega)
    obtain ⟨c1, c2⟩ := hC k (by omega)
    have ig : vp_in (nI (g k)) 120 := vp_in_nI g1 (by decide)
    -- the translated values
    have tr : ∀ kk x0 : Int32, qe_T N g kk x0 → ∃ x, qk_T b N g kk x0 x ∧ ((kk = 2 ∧ vp_in x0 120 ∧ fw x0.toNatClampNeg = x) ∨ (¬ kk = 2 ∧ x0 = x)) := fun kk x0 ht => by
      by_cases e : kk = 2
      · obtain ⟨i, i1, i2⟩ := ht e
        have := (hg i i1).1
        refine ⟨nI (b + i), ⟨fun _ => ⟨i, i1, i2, rfl⟩, fun z => absurd e z⟩, Or.inl ⟨e, ?_, ?_⟩⟩
        · rw [i2]
          exact vp_in_nI this (by decide)
        · rw [i2, qn_c (by omega), hf1 i i1]
      · exact ⟨x0, ⟨fun z => absurd z e, fun _ => rfl⟩, Or.inr ⟨e, rfl⟩⟩
    obtain ⟨x1, t1, w1⟩ := tr _ _ c1
    obtain ⟨x2, t2, w2⟩ := tr _ _ c2
    obtain ⟨hk', hv', tk', tv', ho', a1, a2, a3, W⟩ := ih (k + 1) (upd hk (b + k) (hk0 (g k))) (upd hv (b + k) x1) (upd tk (b + k) (tk0 (g k))) (upd tv (b + k) x2) _ (by omega) (fun c hc => by
        rw [pk_un (by omega), pk_un (by omega), pk_un (by omega), pk_un (by omega)]
        exact h1 c hc) (fun i hi => by
        by_cases e : i = k
        · rw [e, pk_us, pk_us, pk_us, pk_us]
          exact ⟨rfl, rfl, t1, t2⟩
        · rw [pk_un (by omega), pk_un (by omega), pk_un (by omega), pk_un (by omega)]
          exact h2 i (by omega)) (qh_cup (c := b + k) hH (by omega) (by
        show (L (b + k) || decide (b ≤ b + k ∧ b + k < b + k)) = false
        rw [hL _ (by omega) (by omega), decide_eq_false (by omega)]
        rfl) (by
        show (L (b + k) || decide (b ≤ b + k ∧ b + k < b + (k + 1))) = true
        rw [decide_eq_true (by omega), Bool.or_true]) (fun c hc => by
        show (L c || decide (b ≤ c ∧ c < b + (k + 1))) = (L c || decide (b ≤ c ∧ c < b + k))
        rw [decide_eq_decide.mpr (show (b ≤ c ∧ c < b + (k + 1)) ↔ (b ≤ c ∧ c < b + k) by omega)]) (qk_TB t1 b1) (qk_TB t2 b2))
    refine ⟨hk', hv', tk', tv', ho', a1, a2, a3, fun post n hn h => ?_⟩
    cases n with
    | zero => omega
    | succ n =>
      have z := W post n (by omega) h
      unfold wX_copyListed_34
      rw [qn_c (a := k) (by omega), g2]
      refine br_f (nI_ge (by omega) (by omega)) ⟨vp_in_nI (by omega) (by decide), nm_e ⟨ig, ?_⟩⟩
      unfold wX_copyListed_79 wX_copyListed_111
      rw [qn_c (a := g k) (by omega), s1, s2, s3, s4, hf1 k (by omega), nI_1]
      rcases w1 with ⟨e1, v1, f1⟩ | ⟨e1, f1⟩
      · refine br_t e1 ⟨ig, v1, ig, ?_⟩
        rcases w2 with ⟨e2, v2, f2⟩ | ⟨e2, f2⟩
        · refine br_t e2 ⟨ig, v2, ig, ig, ig, ?_⟩
          rw [f1, f2]
          exact qx_fill (by omega) (qk_TB t1 b1) (qk_TB t2 b2) (nm_e z)
        · refine br_f e2 ⟨ig, ig, ig, ig, ?_⟩
          rw [f1, f2]
          exact qx_fill (by omega) (qk_TB t1 b1) (qk_TB t2 b2) (nm_e z)
      · refine br_f e1 ⟨ig, ig, ?_⟩
        rcases w2 with ⟨e2, v2, f2⟩ | ⟨e2, f2⟩
        · refine br_t e2 ⟨ig, v2, ig, ig, ig, ?_⟩
          rw [f1, f2]
          exact qx_fill (by omega) (qk_TB t1 b1) (qk_TB t2 b2) (nm_e z)
        · refine br_f e2 ⟨ig, ig, ig, ig, ?_⟩
          rw [f1, f2]
          exact qx_fill (by omega) (qk_TB t1 b1) (qk_TB t2 b2) (nm_e z)
end
theorem qc_copy {pk pv wt hf us hk hv tk tv fw ho li ml : Nat → Int32} {m h w : Nat → Nat} {p N : Nat} {g : Nat → Nat} (hD : qr_D m h w wt hf us ml) (hXC : qr_XC (qr_L m h) hk hv tk tv)
    (hH : qh_N ho (qh_T (qr_L m h) pk pv hk hv tk tv)) (hF : ∀ c, c < 120 → fw c = -1) (hp : p < 3) (hN : N ≤ 20) (hM : m p + N ≤ 20) (hg : ∀ i, i < N → qr_L m h (g i) = true ∧ li i = nI (g i))
    (ginj : ∀ i j, i < N → j < N → g i = g j → i = j) (gC : qe_C hk hv tk tv N N g) :
    ∃ us' hk' hv' tk' tv' fw' ho' : Nat → Int32, us' p = nI (m p + N) ∧ (∀ q, q ≠ p → us' q = us q) ∧ (∀ i, i < N → fw' (g i) = nI (40 * p + 20 * h p + m p + i)) ∧ (∀ c, c < 120 → fw' c = -1 ∨ ∃ i, i < N ∧ g i = c) ∧
      (∀ c, ¬ (40 * p + 20 * h p + m p ≤ c ∧ c < 40 * p + 20 * h p + m p + N) → hk' c = hk c ∧ hv' c = hv c ∧ tk' c = tk c ∧ tv' c = tv c) ∧
      (∀ i, i < N → hk' (40 * p + 20 * h p + m p + i) = hk (g i) ∧ tk' (40 * p + 20 * h p + m p + i) = tk (g i) ∧ qk_T (40 * p + 20 * h p + m p) N g (hk (g i)) (hv (g i)) (hv' (40 * p + 20 * h p + m p + i)) ∧
        qk_T (40 * p + 20 * h p + m p) N g (tk (g i)) (tv (g i)) (tv' (40 * p + 20 * h p + m p + i))) ∧
      qh_N ho' (qh_T (qr_L (qn_u m p (m p + N)) h) pk pv hk' hv' tk' tv') ∧
      ∀ post : SX → Prop, post (nI N, pk, pv, wt, hf, us', hk', hv', tk', tv', fw', ho', li) → wpX_copyListed post (nI N, pk, pv, wt, hf, us, hk, hv, tk, tv, fw, ho, li) (nI p) := by
  obtain ⟨d1, d2, d3, d4, d5, d6, d7⟩ := hD p hp
  have hg' : ∀ i, i < N → g i < 120 ∧ li i = nI (g i) := fun i hi => ⟨(hXC _ (hg i hi).1).1, (hg i hi).2⟩
  have hLn : ∀ c, 40 * p + 20 * h p + m p ≤ c → c < 40 * p + 20 * h p + m p + N → qr_L m h c = false := fun c c1 c2 => Bool.eq_false_iff.mpr fun z => by
    have := qr_Li.mp z
    rw [show c / 40 = p by omega] at this
    omega
  obtain ⟨us', fw', a1, a2, a3, a4, W1⟩ := qc_loop2 (pk := pk) (pv := pv) (wt := wt) (hf := hf) (li := li) (hk := hk) (hv := hv) (tk := tk) (tv := tv) (ho := ho) (fw0 := fw) (us0 := us) (M := m p) hp d6 d2 hN hM hg' ginj N 0 us fw (by omega) d7
    (fun _ _ => rfl) (fun i hi => by omega) (fun _ _ => rfl)
  have eL : (fun c => qr_L m h c || decide (40 * p + 20 * h p + m p ≤ c ∧ c < 40 * p + 20 * h p + m p + 0)) = qr_L m h := by
    funext c
    rw [decide_eq_false (by omega), Bool.or_false]
  have eL2 : (fun c => qr_L m h c || decide (40 * p + 20 * h p + m p ≤ c ∧ c < 40 * p + 20 * h p + m p + N)) = qr_L (qn_u m p (m p + N)) h := by
    funext c
    apply Bool.eq_iff_iff.mpr
    rw [qr_Lup hp d2 hM, Bool.or_eq_true, decide_eq_true_iff]
  obtain ⟨hk', hv', tk', tv', ho', b1, b2, b3, W2⟩ := qc_loop34 (pk := pk) (pv := pv) (wt := wt) (hf := hf) (li := li) (L := qr_L m h) (us := us') (fw := fw') (hk0 := hk) (hv0 := hv) (tk0 := tk) (tv0 := tv) (b := 40 * p + 20 * h p + m p) (g := g) hN (by omega) hg' a3 hLn
    (fun i hi => (hg i hi).1) gC (fun i hi => by
      obtain ⟨_, t1, t2⟩ := hXC _ (hg i hi).1
      exact ⟨qr_TWB t1, qr_TWB t2⟩) N 0 hk hv tk tv ho (by omega) (fun _ _ => ⟨rfl, rfl, rfl, rfl⟩) (fun i hi => by omega) (by rw [eL]; exact hH)
  rw [eL2] at b3
  refine ⟨us', hk', hv', tk', tv', fw', ho', a1, a2, a3, fun c hc => ?_, b1, b2, b3, fun post q => ?_⟩
  · by_cases e : ∃ i, i < N ∧ g i = c
    · exact Or.inr e
    · rw [a4 c (fun i hi z => e ⟨i, hi, z⟩)]
      exact Or.inl (hF c hc)
  · exact Exists.intro (N + 1) (W1 post (N + 1) (by omega) (Exists.intro (N + 1) (W2 post (N + 1) (by omega) q)))
end
section
/-! Y's copy -/
def qz_T (rc : Nat → Int32) (e : Nat → Nat) (k y0 y : Int32) : Prop := (k = 2 → ∃ d, d < 60 ∧ y0 = nI d ∧ ¬ rc d = 0 ∧ y = nI (e d)) ∧ (¬ k = 2 → y = y0)
def qz_I (uy0 rc uy cp : Nat → Int32) (p i : Nat) (e : Nat → Nat) : Prop :=
  (∀ y, y < i → ¬ rc y = 0 → cp y = nI (e y) ∧ 20 * p ≤ e y ∧ e y < 20 * p + 20 ∧ uy0 (e y) = 0 ∧ uy (e y) = 1) ∧
  (∀ y z, y < i → z < i → ¬ rc y = 0 → ¬ rc z = 0 → e y = e z → y = z) ∧
  (∀ z, uy z = uy0 z ∨ (uy z = 1 ∧ ∃ y, y < i ∧ ¬ rc y = 0 ∧ e y = z))
theorem qs_mono {f : Nat → Nat} {i : Nat} : ∀ {n : Nat}, i ≤ n → qs_s f i ≤ qs_s f n
  | 0, h => by
    have : i = 0 := by omega
    rw [this]
    exact Nat.le_refl _
  | n + 1, h => by
    rcases Nat.lt_or_ge i (n + 1) with z | z
    · have := qs_mono (f := f) (n := n) (show i ≤ n by omega)
      simp only [qs_s]
      omega
    · have : i = n + 1 := by omega
      rw [this]
      exact Nat.le_refl _
section
variable {ml rc : Nat → Int32}
theorem qz_loop72 {kd ct uy0 : Nat → Int32} {x4 : Int32} {p M N : Nat} (hp : p < 3) (hM : M + N ≤ 20) (hN : qs_s (fun i => if rc i = 0 then 0 else 1) 60 = N) :
    ∀ (d i : Nat) (uy cp : Nat → Int32) (e : Nat → Nat), i + d = 60 → qz_I uy0 rc uy cp p i e → qs_s (fun j => if uy (20 * p + j) = 0 then 0 else 1) 20 = M + qs_s (fun i => if rc i = 0 then 0 else 1) i →
    ∃ (uy' cp' : Nat → Int32) (e' : Nat → Nat), qz_I uy0 rc uy' cp' p 60 e' ∧
      ∀ (post : Int32 → SY → Prop) (n : Nat), d < n → (∃ n123, wY_send_123 post (nI p) x4 n123 0 kd ct ml uy' rc cp') → wY_send_72 post (nI p) x4 n (nI i) kd ct ml uy rc cp := by
  intro d
  induction d with
  | zero =>
    intro i uy cp e hi I hc
    have ei : i = 60 := by omega
    subst ei
    refine ⟨uy, cp, e, I, fun post n hn h => ?_⟩
    cases n with
    | zero => omega
    | succ n => exact br_t (by decide) h
  | succ d ih =>
    intro i uy cp e hi I hc
    have hge : ¬ (60 : Int32) ≤ nI i := nI_ge (b := 60) (by omega) (by decide)
    have ii : vp_in (nI i) 60 := vp_in_nI (by omega) (by decide)
    have ni : (nI i).toNatClampNeg = i := qn_c (by omega)
    obtain ⟨I1, I2, I3⟩ := I
    by_cases hr : rc i = 0
    · have h0s : qs_s (fun i => if rc i = 0 then 0 else 1) (i + 1) = qs_s (fun i => if rc i = 0 then 0 else 1) i := by simp only [qs_s, if_pos hr]; omega
      have J : qz_I uy0 rc uy cp p (i + 1) e := by
        refine ⟨fun y hy hry => ?_, fun y z hy hz h1 h2 h3 => ?_, fun z => ?_⟩
        · by_cases q : y = i
          · rw [q] at hry
            exact absurd hr hry
          · exact I1 y (by omega) hry
        · by_cases q : y = i
          · rw [q] at h1
            exact absurd hr h1
          · by_cases q2 : z = i
            · rw [q2] at h2
              exact absurd hr h2
            · exact I2 y z (by omega) (by omega) h1 h2 h3
        · rcases I3 z with a | ⟨a, y, b1, b2⟩
          · exact Or.inl a
          · exact Or.inr ⟨a, y, by omega, b2⟩
      obtain ⟨uy', cp', e', I', W⟩ := ih (i + 1) uy cp e (by omega) J (by rw [h0s]; exact hc)
      refine ⟨uy', cp', e', I', fun post n hn h => ?_⟩
      cases n with
      | zero => omega
      | succ n =>
        have z := W post n (by omega) h
        unfold wY_send_72
        rw [ni, nI_1]
        exact br_f hge ⟨ii, br_t hr (nm_e z)⟩
    · have hle := qs_mono (f := fun i => if rc i = 0 then 0 else 1) (i := i + 1) (n := 60) (by omega)
      have h1s : qs_s (fun i => if rc i = 0 then 0 else 1) (i + 1) = qs_s (fun i => if rc i = 0 then 0 else 1) i + 1 := by simp only [qs_s, if_neg hr]
      obtain ⟨y, y1, y2, y3, WU⟩ := qy_unused (kd := kd) (ct := ct) (ml := ml) (uy := uy) (rc := rc) (cp := cp) hp (qy_free (by omega))
      have y0 : uy0 y = 0 := by
        rcases I3 y with a | ⟨a, _⟩
        · rw [← a]
          exact y3
        · rw [y3] at a
          exact absurd a (by decide)
      have hne : ∀ z, z < i → ¬ rc z = 0 → e z ≠ y := fun z hz hrz q => by
        have := (I1 z hz hrz).2.2.2.2
        rw [q, y3] at this
        exact absurd this (by decide)
      have J : qz_I uy0 rc (upd uy y 1) (upd cp i (nI y)) p (i + 1) (qn_u e i y) := by
        refine ⟨fun z hz hrz => ?_, fun z z' hz hz' h1 h2 h3 => ?_, fun z => ?_⟩
        · by_cases q : z = i
          · rw [q, pk_us, qn_us, pk_us]
            exact ⟨rfl, y1, y2, y0, rfl⟩
          · rw [pk_un q, qn_un q, pk_un (hne z (by omega) hrz)]
            exact I1 z (by omega) hrz
        · by_cases q : z = i
          · by_cases q2 : z' = i
            · omega
            · rw [q, qn_us, qn_un q2] at h3
              exact absurd h3.symm (hne z' (by omega) h2)
          · by_cases q2 : z' = i
            · rw [q2, qn_us, qn_un q] at h3
              exact absurd h3 (hne z (by omega) h1)
            · rw [qn_un q, qn_un q2] at h3
              exact I2 z z' (by omega) (by omega) h1 h2 h3
        · by_cases q : z = y
          · rw [q, pk_us]
            exact Or.inr ⟨rfl, i, by omega, hr, qn_us⟩
          · rw [pk_un q]
            rcases I3 z with a | ⟨a, z', b1, b2, b3⟩
            · exact Or.inl a
            · exact Or.inr ⟨a, z', by omega, b2, by rw [qn_un (by omega)]; exact b3⟩
      obtain ⟨uy', cp', e', I', W⟩ := ih (i + 1) (upd uy y 1) (upd cp i (nI y)) (qn_u e i y) (by omega) J (by
        have a := qs_one (f := fun j => if upd uy y 1 (20 * p + j) = 0 then 0 else 1) (g := fun j => if uy (20 * p + j) = 0 then 0 else 1) (k := y - 20 * p) (n := 20) (by omega) (fun j _ hj => by
          show (if upd uy y 1 (20 * p + j) = 0 then 0 else 1) = (if uy (20 * p + j) = 0 then 0 else 1)
          rw [pk_un (by omega)])
        rw [show 20 * p + (y - 20 * p) = y by omega, pk_us, if_pos y3, if_neg (by decide)] at a
        rw [h1s]
        omega)
      refine ⟨uy', cp', e', I', fun post n hn h => ?_⟩
      cases n with
      | zero => omega
      | succ n =>
        have z := W post n (by omega) h
        unfold wY_send_72
        rw [ni, nI_1]
        refine br_f hge ⟨ii, br_f hr (WU _ ⟨ii, nm_e ⟨ii, ?_⟩⟩)⟩
        rw [pk_us, qn_c (a := y) (by omega), qn_b1]
        exact ⟨vp_in_nI (by omega) (by decide), nm_e (nm_e z)⟩
/-- takeCopy -/
theorem qz_tc {kd ct uy cp : Nat → Int32} {e : Nat → Nat} {q s : Nat} (hq : q < 141) (hs : s < 141) (hcp : ∀ y, y < 60 → ¬ rc y = 0 → cp y = nI (e y)) (hr : kd s = 2 → ∃ d, d < 60 ∧ ct s = nI d ∧ ¬ rc d = 0) :
    ∃ y, qz_T rc e (kd s) (ct s) y ∧ ∀ post : SY → Prop, post (upd kd q (kd s), upd ct q y, ml, uy, rc, cp) → wpY_takeCopy post (kd, ct, ml, uy, rc, cp) (nI q) (nI s) := by
  by_cases h : kd s = 2
  · obtain ⟨d, d1, d2, d3⟩ := hr h
    refine ⟨nI (e d), ⟨fun _ => ⟨d, d1, d2, d3, rfl⟩, fun z => absurd h z⟩, fun post p => qy_tc1 hq hs h d1 d2 ?_⟩
    rw [hcp d d1 d3, ← h]
    exact p
  · exact ⟨ct s, ⟨fun z => absurd z h, fun _ => rfl⟩, fun post p => qy_tc0 hq hs h p⟩
theorem qz_loop123 {uy uy0 cp kd0 ct0 : Nat → Int32} {x3 x4 : Int32} {p : Nat} {e : Nat → Nat} (hp : p < 3) (I : qz_I uy0 rc uy cp p 60 e) (hr : ∀ y, y < 60 → ¬ rc y = 0 → uy0 y = 1)
    (hcl : ∀ q, 21 ≤ q → q < 141 → ¬ rc ((q - 21) / 2) = 0 → kd0 q = 2 → ∃ d, d < 60 ∧ ct0 q = nI d ∧ ¬ rc d = 0) :
    ∀ (d i : Nat) (kd ct : Nat → Int32), i + d = 60 → (∀ q, (∀ y, y < 60 → ¬ rc y = 0 → q ≠ 21 + 2 * e y ∧ q ≠ 22 + 2 * e y) → kd q = kd0 q ∧ ct q = ct0 q) →
    (∀ y, y < i → ¬ rc y = 0 → kd (21 + 2 * e y) = kd0 (21 + 2 * y) ∧ kd (22 + 2 * e y) = kd0 (22 + 2 * y) ∧ qz_T rc e (kd0 (21 + 2 * y)) (ct0 (21 + 2 * y)) (ct (21 + 2 * e y)) ∧ qz_T rc e (kd0 (22 + 2 * y)) (ct0 (22 + 2 * y)) (ct (22 + 2 * e y))) →
    ∃ kd' ct' : Nat → Int32, (∀ q, (∀ y, y < 60 → ¬ rc y = 0 → q ≠ 21 + 2 * e y ∧ q ≠ 22 + 2 * e y) → kd' q = kd0 q ∧ ct' q = ct0 q) ∧
      (∀ y, y < 60 → ¬ rc y = 0 → kd' (21 + 2 * e y) = kd0 (21 + 2 * y) ∧ kd' (22 + 2 * e y) = kd0 (22 + 2 * y) ∧ qz_T rc e (kd0 (21 + 2 * y)) (ct0 (21 + 2 * y)) (ct' (21 + 2 * e y)) ∧ qz_T rc e (kd0 (22 + 2 * y)) (ct0 (22 + 2 * y)) (ct' (22 + 2 * e y))) ∧
      ∀ (post : Int32 → SY → Prop) (n : Nat), d < n → (∀ n', 0 < n' → wY_send_123 post x3 x4 n' (nI 60) kd' ct' ml uy rc cp) → wY_send_123 post x3 x4 n (nI i) kd ct ml uy rc cp := by
  obtain ⟨I1, I2, I3⟩ := I
  have hcp : ∀ y, y < 60 → ¬ rc y = 0 → cp y = nI (e y) := fun y hy h => (I1 y hy h).1
  intro d
  induction d with
  | zero =>
    intro i kd ct hi h1 h2
    have ei : i = 60 := by omega
    subst ei
    exact ⟨kd, ct, h1, h2, fun post n hn h => h n (by omega)⟩
  | succ d ih =>
    intro i kd ct hi h1 h2
    have hge : ¬ (60 : Int32) ≤ nI i := nI_ge (b := 60) (by omega) (by decide)
    have ii : vp_in (nI i) 60 := vp_in_nI (by omega) (by decide)
    have ni : (nI i).toNatClampNeg = i := qn_c (by omega)
    by_cases hri : rc i = 0
    · obtain ⟨kd', ct', a1, a2, W⟩ := ih (i + 1) kd ct (by omega) h1 (fun y hy hry => by
        by_cases q : y = i
        · rw [q] at hry
          exact absurd hri hry
        · exact h2 y (by omega) hry)
      refine ⟨kd', ct', a1, a2, fun post n hn h => ?_⟩
      cases n with
      | zero => omega
      | succ n =>
        have z := W post n (by omega) h
        unfold wY_send_123
        rw [ni, nI_1]
        exact br_f hge ⟨ii, br_t hri (nm_e z)⟩
    · obtain ⟨c1, c2, c3, c4, c5⟩ := I1 i (by omega) hri
      have notnew : ∀ y, y < 60 → ¬ rc y = 0 → e y ≠ i := fun y hy hry q => by
        have := (I1 y hy hry).2.2.2.1
        rw [q, hr i (by omega) hri] at this
        exact absurd this (by decide)
      obtain ⟨s1, s2⟩ := h1 (21 + 2 * i) (fun y hy hry => by have := notnew y hy hry; omega)
      obtain ⟨s3, s4⟩ := h1 (22 + 2 * i) (fun y hy hry => by have := notnew y hy hry; omega)
      have hee := notnew i (by omega) hri
      obtain ⟨y1, t1, W1⟩ := qz_tc (ml := ml) (rc := rc) (kd := kd) (ct := ct) (uy := uy) (cp := cp) (e := e) (q := 21 + 2 * e i) (s := 21 + 2 * i) (by omega) (by omega) hcp (fun h => by
        rw [s1] at h
        rw [s2]
        exact hcl _ (by omega) (by omega) (by rw [show (21 + 2 * i - 21) / 2 = i by omega]; exact hri) h)
      have u3 : upd kd (21 + 2 * e i) (kd (21 + 2 * i)) (22 + 2 * i) = kd0 (22 + 2 * i) := by rw [pk_un (by omega), s3]
      have u4 : upd ct (21 + 2 * e i) y1 (22 + 2 * i) = ct0 (22 + 2 * i) := by rw [pk_un (by omega), s4]
      obtain ⟨y2, t2, W2⟩ := qz_tc (ml := ml) (rc := rc) (kd := upd kd (21 + 2 * e i) (kd (21 + 2 * i))) (ct := upd ct (21 + 2 * e i) y1) (uy := uy) (cp := cp) (e := e) (q := 22 + 2 * e i) (s := 22 + 2 * i) (by omega) (by omega) hcp (fun h => by
        rw [u3] at h
        rw [u4]
        exact hcl _ (by omega) (by omega) (by rw [show (22 + 2 * i - 21) / 2 = i by omega]; exact hri) h)
      rw [u3, u4] at t2
      rw [s1, s2] at t1
      rw [u3] at W2
      rw [s1] at W1 W2
      obtain ⟨kd', ct', a1, a2, W⟩ := ih (i + 1) (upd (upd kd (21 + 2 * e i) (kd0 (21 + 2 * i))) (22 + 2 * e i) (kd0 (22 + 2 * i))) (upd (upd ct (21 + 2 * e i) y1) (22 + 2 * e i) y2) (by omega) (fun q hq => by
        have := hq i (by omega) hri
        rw [pk_un (by omega), pk_un (by omega), pk_un (by omega), pk_un (by omega)]
        exact h1 q hq) (fun y hy hry => by
        by_cases q : y = i
        · rw [q, pk_un (show 21 + 2 * e i ≠ 22 + 2 * e i by omega), pk_un (show 21 + 2 * e i ≠ 22 + 2 * e i by omega), pk_us, pk_us, pk_us, pk_us]
          exact ⟨rfl, rfl, t1, t2⟩
        · have hyi : e y ≠ e i := fun z => q (I2 y i (by omega) (by omega) hry hri z)
          rw [pk_un (show 21 + 2 * e y ≠ 22 + 2 * e i by omega), pk_un (show 21 + 2 * e y ≠ 22 + 2 * e i by omega), pk_un (show 21 + 2 * e y ≠ 21 + 2 * e i by omega), pk_un (show 21 + 2 * e y ≠ 21 + 2 * e i by omega),
            pk_un (show 22 + 2 * e y ≠ 22 + 2 * e i by omega), pk_un (show 22 + 2 * e y ≠ 22 + 2 * e i by omega), pk_un (show 22 + 2 * e y ≠ 21 + 2 * e i by omega), pk_un (show 22 + 2 * e y ≠ 21 + 2 * e i by omega)]
          exact h2 y (by omega) hry)
      refine ⟨kd', ct', a1, a2, fun post n hn h => ?_⟩
      cases n with
      | zero => omega
      | succ n =>
        have z := W post n (by omega) h
        unfold wY_send_123
        rw [ni, nI_1, c1, qn_21, qn_22, qn_21]
        refine br_f hge ⟨ii, br_f hri ⟨ii, W1 _ ⟨ii, ?_⟩⟩⟩
        dsimp only
        rw [c1, qn_22]
        exact W2 _ (nm_e z)
end
end
section
/-! send -/
theorem qk_TW2 {L L' : Nat → Bool} {b N p p' : Nat} {g : Nat → Nat} {k x0 x : Int32} (h : qr_TW L p k x0) (ht : qk_T b N g k x0 x) (hL : ∀ i, i < N → L' (b + i) = true ∧ (b + i) / 40 = p') : qr_TW L' p' k x := by
  by_cases e : k = 2
  · obtain ⟨i, i1, i2, i3⟩ := ht.1 e
    exact Or.inr (Or.inr (Or.inl ⟨e, b + i, (hL i i1).1, (hL i i1).2, i3⟩))
  · rw [ht.2 e]
    exact qr_TWn h e
theorem ql_TC {φ φ' e : Nat → Nat} {rc : Nat → Int32} {b N : Nat} {g : Nat → Nat} {k x0 x k' y0 y : Int32} (h : qr_TC φ k x0 k' y0) (ht : qk_T b N g k x0 x) (hz : qz_T rc e k' y0 y) (hφ : ∀ i, i < N → φ' (b + i) = e (φ (g i))) (hb : b + N < 1000)
    (hg : ∀ i, i < N → g i < 1000 ∧ φ (g i) < 1000) : qr_TC φ' k x k' y := by
  by_cases q : k = 2
  · obtain ⟨i, i1, i2, i3⟩ := ht.1 q
    obtain ⟨d, d1, d2, d3, d4⟩ := hz.1 (h.1.trans q)
    have a := h.2.1 q
    rw [i2, qn_c (hg i i1).1, d2] at a
    have b' := qn_inj (by omega) (hg i i1).2 a
    refine ⟨h.1, fun _ => ?_, fun z => absurd (z.symm.trans q) (by decide), fun z => absurd (z.symm.trans q) (by decide)⟩
    rw [i3, qn_c (by omega), hφ i i1, d4, b']
  · have q' : ¬ k' = 2 := fun z => q (h.1.symm.trans z)
    rw [ht.2 q, hz.2 q']
    exact qr_TCn h q
theorem qr_mail {L : Nat → Bool} {φ w : Nat → Nat} {pk pv hk hv tk tv kd ct uy : Nat → Int32} {p : Nat} {k x k' y : Int32} (H : qr_C L φ w pk pv hk hv tk tv kd ct uy) (hp : p < 3) (hw : w p < 3) (tw : qr_TW L p k x) (tc : qr_TC φ k x k' y) :
    qr_C L φ (qn_u w p (w p + 1)) (upd pk (12 + 3 * p + w p) k) (upd pv (12 + 3 * p + w p) x) hk hv tk tv (upd kd (12 + 3 * p + w p) k') (upd ct (12 + 3 * p + w p) y) uy := by
  obtain ⟨a, b, c, d, e, f⟩ := H
  have thq : ∀ q, q < 21 → q ≠ 12 + 3 * p + w p → (qr_th (qn_u w p (w p + 1)) q ↔ qr_th w q) := fun q hq hne => by
    rcases qr_pl hq with ⟨p', r, hp', hr, rfl⟩ | ⟨p', r, hp', hr, rfl⟩
    · exact ⟨fun _ => qr_thr hp' hr, fun _ => qr_thr hp' hr⟩
    · rw [qr_thm hr, qr_thm hr]
      by_cases z : p' = p
      · rw [z, qn_us]
        rw [z] at hne
        omega
      · rw [qn_un z]
  have thj : qr_th (qn_u w p (w p + 1)) (12 + 3 * p + w p) := (qr_thm hw).mpr (by rw [qn_us]; omega)
  refine ⟨fun q hq => ?_, b, fun q hq hn => ?_, fun q hq hn => ?_, fun q hq => ?_, f⟩
  · by_cases z : q = 12 + 3 * p + w p
    · rw [z, pk_us, pk_us, qr_owm hp hw]
      exact tw
    · rw [pk_un z, pk_un z]
      exact a q hq
  · by_cases z : q = 12 + 3 * p + w p
    · rw [z] at hn
      exact absurd thj hn
    · rw [pk_un z, pk_un z]
      exact c q hq (fun y => hn ((thq q hq z).mpr y))
  · by_cases z : q = 12 + 3 * p + w p
    · rw [z, pk_us, pk_us, pk_us, pk_us]
      exact tc
    · rw [pk_un z, pk_un z, pk_un z, pk_un z]
      exact d q hq ((thq q hq z).mp hn)
  · rw [pk_un (show 21 + 2 * φ q ≠ 12 + 3 * p + w p by omega), pk_un (show 21 + 2 * φ q ≠ 12 + 3 * p + w p by omega), pk_un (show 22 + 2 * φ q ≠ 12 + 3 * p + w p by omega), pk_un (show 22 + 2 * φ q ≠ 12 + 3 * p + w p by omega)]
    exact e q hq
/-- the copied cells on both sides -/
theorem qr_copied {m h φ w e g : Nat → Nat} {pk pv hk hv tk tv kd ct uy rc hk' hv' tk' tv' kd' ct' uy' cp' : Nat → Int32} {T N b : Nat} (hC : qr_C (qr_L m h) φ w pk pv hk hv tk tv kd ct uy) (hT : T < 3) (hm : m T + N ≤ 20) (hh : h T ≤ 1)
    (hb : b = 40 * T + 20 * h T + m T) (gL : ∀ i, i < N → qr_L m h (g i) = true) (ginj : ∀ i k, i < N → k < N → g i = g k → i = k) (yiff : ∀ y, y < 60 → (¬ rc y = 0 ↔ ∃ i, i < N ∧ φ (g i) = y))
    (c1 : ∀ c, ¬ (b ≤ c ∧ c < b + N) → hk' c = hk c ∧ hv' c = hv c ∧ tk' c = tk c ∧ tv' c = tv c)
    (c2 : ∀ i, i < N → hk' (b + i) = hk (g i) ∧ tk' (b + i) = tk (g i) ∧ qk_T b N g (hk (g i)) (hv (g i)) (hv' (b + i)) ∧ qk_T b N g (tk (g i)) (tv (g i)) (tv' (b + i)))
    (I : qz_I uy rc uy' cp' T 60 e) (y1 : ∀ q, (∀ y, y < 60 → ¬ rc y = 0 → q ≠ 21 + 2 * e y ∧ q ≠ 22 + 2 * e y) → kd' q = kd q ∧ ct' q = ct q)
    (y2 : ∀ y, y < 60 → ¬ rc y = 0 → kd' (21 + 2 * e y) = kd (21 + 2 * y) ∧ kd' (22 + 2 * e y) = kd (22 + 2 * y) ∧ qz_T rc e (kd (21 + 2 * y)) (ct (21 + 2 * y)) (ct' (21 + 2 * e y)) ∧ qz_T rc e (kd (22 + 2 * y)) (ct (22 + 2 * y)) (ct' (22 + 2 * e y))) :
    ∃ ψ : Nat → Nat, (∀ i, i < N → ψ (b + i) = e (φ (g i))) ∧ qr_C (qr_L (qn_u m T (m T + N)) h) ψ w pk pv hk' hv' tk' tv' kd' ct' uy' := by
  obtain ⟨I1, I2, I3⟩ := I
  have hC0 := hC
  obtain ⟨hXP, hXC, hXN, hYP, hYC, hF1, hF2, hF3⟩ := hC
  have Lup : ∀ c, qr_L (qn_u m T (m T + N)) h c = true ↔ (qr_L m h c = true ∨ (b ≤ c ∧ c < b + N)) := fun c => by
    rw [hb]
    exact qr_Lup hT hh hm
  have Lno : ∀ c, qr_L m h c = true → ¬ (b ≤ c ∧ c < b + N) := fun c hc z => by
    have := qr_Li.mp hc
    rw [show c / 40 = T by omega] at this
    omega
  have Ln : ∀ i, i < N → qr_L (qn_u m T (m T + N)) h (b + i) = true ∧ (b + i) / 40 = T := fun i hi => ⟨(Lup _).mpr (Or.inr (by omega)), by omega⟩
  have φn : ∀ i, i < N → (fun c => if b ≤ c ∧ c < b + N then e (φ (g (c - b))) else φ c) (b + i) = e (φ (g i)) := fun i hi => by
    show (if b ≤ b + i ∧ b + i < b + N then e (φ (g (b + i - b))) else φ (b + i)) = e (φ (g i))
    rw [if_pos (by omega), Nat.add_sub_cancel_left]
  have φo : ∀ c, qr_L m h c = true → (fun c => if b ≤ c ∧ c < b + N then e (φ (g (c - b))) else φ c) c = φ c := fun c hc => by
    show (if b ≤ c ∧ c < b + N then e (φ (g (c - b))) else φ c) = φ c
    rw [if_neg (Lno c hc)]
  generalize (fun c => if b ≤ c ∧ c < b + N then e (φ (g (c - b))) else φ c) = ψ at φn φo
  have gr : ∀ i, i < N → φ (g i) < 60 ∧ ¬ rc (φ (g i)) = 0 ∧ g i < 120 := fun i hi => by
    have a := (hF1 _ (gL i hi)).1
    exact ⟨a, (yiff _ a).mpr ⟨i, hi, rfl⟩, (hXC _ (gL i hi)).1⟩
  have g1000 : ∀ i, i < N → g i < 1000 ∧ φ (g i) < 1000 := fun i hi => by have := gr i hi; omega
  refine ⟨ψ, φn, qr_grow hC0 (fun c hc => ?_) (fun c hc hn => ?_) (fun c d hc hn hd hm' he => ?_) (fun y hy => ?_) (fun y hy h1 => ?_) (fun q hq => ?_)⟩
  · obtain ⟨a1, a2, a3, a4⟩ := c1 c (Lno c hc)
    obtain ⟨f1, f2, f3⟩ := hF1 c hc
    have hne : ∀ y, y < 60 → ¬ rc y = 0 → e y ≠ φ c := fun y hy hr z => by
      have := (I1 y hy hr).2.2.2.1
      rw [z, f3] at this
      exact absurd this (by decide)
    obtain ⟨b1, b2⟩ := y1 (21 + 2 * φ c) (fun y hy hr => by have := hne y hy hr; omega)
    obtain ⟨b3, b4⟩ := y1 (22 + 2 * φ c) (fun y hy hr => by have := hne y hy hr; omega)
    exact ⟨(Lup c).mpr (Or.inl hc), φo c hc, a1, a2, a3, a4, b1, b2, b3, b4⟩
  · have hr : b ≤ c ∧ c < b + N := ((Lup c).mp hc).elim (fun z => absurd z hn) id
    obtain ⟨i, rfl⟩ : ∃ i, c = b + i := ⟨c - b, by omega⟩
    obtain ⟨r1, r2, r3⟩ := gr i (by omega)
    obtain ⟨e1, e2, e3, e4, e5⟩ := I1 _ r1 r2
    obtain ⟨k1, k2, k3, k4⟩ := y2 _ r1 r2
    obtain ⟨a1, a2, a3, a4⟩ := c2 i (by omega)
    obtain ⟨_, t1, t2⟩ := hXC _ (gL i (by omega))
    obtain ⟨s1, s2⟩ := hYC _ (gL i (by omega))
    rw [φn i (by omega), a1, a2, (Ln i (by omega)).2, k1, k2]
    exact ⟨by omega, qk_TW2 t1 a3 Ln, qk_TW2 t2 a4 Ln, by omega, by omega, e4, e5, ql_TC s1 a3 k3 φn (by omega) g1000, ql_TC s2 a4 k4 φn (by omega) g1000⟩
  · have hr : b ≤ c ∧ c < b + N := ((Lup c).mp hc).elim (fun z => absurd z hn) id
    have hr' : b ≤ d ∧ d < b + N := ((Lup d).mp hd).elim (fun z => absurd z hm') id
    obtain ⟨i, rfl⟩ : ∃ i, c = b + i := ⟨c - b, by omega⟩
    obtain ⟨k, rfl⟩ : ∃ k, d = b + k := ⟨d - b, by omega⟩
    obtain ⟨r1, r2, r3⟩ := gr i (by omega)
    obtain ⟨s1, s2, s3⟩ := gr k (by omega)
    rw [φn i (by omega), φn k (by omega)] at he
    have := ginj i k (by omega) (by omega) (hF2 _ _ (gL i (by omega)) (gL k (by omega)) (I2 _ _ r1 s1 r2 s2 he))
    omega
  · rcases I3 y with z | ⟨z, y', z1, z2, z3⟩
    · exact Or.inl z
    · obtain ⟨i, i1, i2⟩ := (yiff y' z1).mp z2
      exact Or.inr ⟨z, b + i, (Ln i i1).1, by rw [φn i i1, i2, z3]⟩
  · rcases I3 y with z | ⟨z, _⟩
    · rw [z]
      exact h1
    · exact z
  · exact y1 q (fun y hy hr => by omega)
theorem i_vc_send {k : Nat} {u : SX} {v : SY} (I : i_Rel k u v) (hk : k + 5 ≤ 2560) (v1 : Int32) (v2 : Int32) (v3 : Int32) : wpX_send (fun r u' => wpY_send (fun r' v' => r' = r ∧ i_Rel (k + 5) u' v') v v1 v2 v3) u v1 v2 v3 := by
  obtain ⟨fl, pk, pv, wt, hf, us, hK, hv, tk, tv, fw, ho, li⟩ := u
  obtain ⟨kd, ct, ml, uy, rc, cp⟩ := v
  unfold wpX_send wpY_send
  dsimp only
  rcases qb_fit v1 v2 with ⟨P, R, hP, hR, rfl, rfl⟩ | ⟨hX, hY⟩
  rotate_left
  · exact hX _ (br_t rfl (hY _ (br_f (by decide) ⟨rfl, I⟩)))
  rcases qb_fit v3 0 with ⟨T, _, hT, _, rfl, _⟩ | ⟨hX, hY⟩
  rotate_left
  · exact qx_fit1 hP hR (br_f (by decide) (hX _ (br_t rfl (qy_bad0 hP hR (br_t rfl (hY _ (br_f (by decide) ⟨rfl, I⟩)))))))
  obtain ⟨φ0, m0, h0, w, hD0, hC0, hF0, hH0⟩ := qr_open I
  obtain ⟨_, _, w3, w4, w5, _, _⟩ := hD0 T hT
  have inT : vp_in (nI T) 3 := vp_in_nI hT (by decide)
  have cT : (nI T).toNatClampNeg = T := qn_c (by omega)
  rw [cT, w4, w5, qn_reg]
  refine qx_fit1 hP hR (br_f (by decide) (qx_fit1 (R := 0) hT (by decide) (br_f (by decide) ⟨inT, ?_⟩)))
  refine pk_lt (w T) 3 (fun hw => ?_) (fun hw => ?_)
  rotate_left
  · refine qy_bad0 hP hR (br_t rfl (qy_bad0 (R := 0) hT (by decide) (br_t rfl ⟨inT, br_t ?_ ⟨rfl, I⟩⟩)))
    rw [show w T = 3 by omega]
    rfl
  have hj : 4 * P + R < 12 := by omega
  obtain ⟨j, ej⟩ : ∃ j, j = 4 * P + R := ⟨_, rfl⟩
  rw [← ej] at hj
  rw [← ej]
  have cj : (nI j).toNatClampNeg = j := qn_c (by omega)
  have inj : vp_in (nI j) 21 := vp_in_nI (by omega) (by decide)
  -- the first list
  obtain ⟨N1, g1, fw1, li1, rc1, n1, _, _, _, _, f1, _, yR1, cnt1, WX1, WY1⟩ := qb_list (fl := fl) (ho := ho) (li := li) (ml := ml) (rc := rc) (cp := cp) hD0 hC0 hF0 hj
  -- room
  obtain ⟨r, φ, m, h, pv', hf', us', hk', hv', tk', tv', fw', ho', uy', rc', hD, hC, hF, hH, hr, WX2, WY2⟩ := qb_room (fl := nI N1) (li := li1) (rc := rc1) (cp := cp) N1 hD0 hC0 f1 hH0 hT n1
  refine nm_e (WX1 _ ?_)
  dsimp only
  refine WX2 _ ?_
  dsimp only
  rcases hr with rfl | ⟨rfl, hroom⟩
  · refine br_t rfl ?_
    refine qy_bad0 hP hR (br_t rfl (qy_bad0 (R := 0) hT (by decide) (br_t rfl ⟨inT, br_f ?_ (nm_e (WY1 _ (qy_found ?_)))⟩)))
    · intro z
      have := qn_inj (b := 3) (by omega) (by omega) z
      omega
    · rw [cnt1]
      exact WY2 _ (br_t rfl ⟨rfl, qr_mk φ m h w hD hC hF hH⟩)
  -- the second list
  obtain ⟨N, g, fw2, li2, rc2, n2, gL, ginj, gT, gC, f2, yiff, yR2, cnt2, WX3, WY3⟩ := qb_list (fl := nI N1) (ho := ho') (li := li1) (ml := ml) (rc := rc') (cp := cp) hD hC hF hj
  have eN : N1 = N := by
    rw [← cnt1, ← cnt2]
    refine qs_congr fun y hy => ?_
    show (if rc1 y = 0 then 0 else 1) = (if rc2 y = 0 then 0 else 1)
    have a := (yR1 y hy).trans (yR2 y hy).symm
    by_cases q : rc1 y = 0
    · by_cases q2 : rc2 y = 0
      · rw [if_pos q, if_pos q2]
      · exact absurd q (a.mpr q2)
    · rw [if_neg q, if_neg (a.mp q)]
  rw [eN] at hroom
  obtain ⟨d1, d2, d3, d4, d5, d6, d7⟩ := hD T hT
  -- the copies
  obtain ⟨us3, hk3, hv3, tk3, tv3, fw3, ho3, u1, u2, x1, x2, c1, c2, hH3, WX4⟩ := qc_copy (pk := pk) (pv := pv') hD hC.2.1 hH f2 hT n2 hroom (fun i hi => ⟨(gL i hi).1, (gL i hi).2.2⟩) ginj gC
  have hu := qr_hu hC.2.2.2.2.2
  obtain ⟨uy3, cp3, e3, I3, WY4⟩ := qz_loop72 (ml := ml) (kd := kd) (ct := ct) (uy0 := uy') (x4 := nI j) (rc := rc2) (M := m T) hT hroom cnt2 60 0 uy' cp (fun _ => 0) rfl
    ⟨fun y hy => by omega, fun y z hy => by omega, fun z => Or.inl rfl⟩ (by rw [qr_cnt hD hC.2.2.2.2.2 hT]; rfl)
  have grc : ∀ i, i < N → φ (g i) < 60 ∧ ¬ rc2 (φ (g i)) = 0 ∧ g i < 120 := fun i hi => by
    have a := (hC.2.2.2.2.2.1 _ (gL i hi).1).1
    exact ⟨a, (yiff _ a).mpr ⟨i, hi, rfl⟩, (hC.2.1 _ (gL i hi).1).1⟩
  -- a pair's content in Y is reached
  have link : ∀ kk x kk' y, qr_TC φ kk x kk' y → qe_T N g kk x → kk' = 2 → ∃ d, d < 60 ∧ y = nI d ∧ ¬ rc2 d = 0 := fun kk x kk' y t q z => by
    have z' := t.1.symm.trans z
    obtain ⟨i, i1, i2⟩ := q z'
    obtain ⟨r1, r2, r3⟩ := grc i i1
    have a := t.2.1 z'
    rw [i2, qn_c (by omega)] at a
    exact ⟨_, r1, a, r2⟩
  obtain ⟨kd3, ct3, p1, p2, WY5⟩ := qz_loop123 (ml := ml) (rc := rc2) (uy := uy3) (uy0 := uy') (cp := cp3) (kd0 := kd) (ct0 := ct) (x3 := nI T) (x4 := nI j) hT I3 (fun y hy hry => by
      obtain ⟨i, i1, i2⟩ := (yiff y hy).mp hry
      rw [← i2]
      exact (hC.2.2.2.2.2.1 _ (gL i i1).1).2.2) (fun q q1 q2 q3 q4 => by
      obtain ⟨i, i1, i2⟩ := (yiff _ (by omega)).mp q3
      obtain ⟨s1, s2⟩ := hC.2.2.2.2.1 _ (gL i i1).1
      obtain ⟨t1, t2⟩ := gC i i1
      rcases qr_cell i2.symm q1 with e | e
      · rw [e] at q4
        rw [e]
        exact link _ _ _ _ s1 t1 q4
      · rw [e] at q4
        rw [e]
        exact link _ _ _ _ s2 t2 q4) 60 0 kd ct rfl (fun _ _ => ⟨rfl, rfl⟩) (fun y hy => by omega)
  obtain ⟨b, hb⟩ : ∃ b, b = 40 * T + 20 * h T + m T := ⟨_, rfl⟩
  rw [← hb] at x1 c1 c2
  obtain ⟨ψ, ψn, hC3⟩ := qr_copied hC hT hroom d2 hb (fun i hi => (gL i hi).1) ginj yiff c1 c2 I3 p1 p2
  -- the mail
  have tj := hC.2.2.2.1 j (by omega) (Or.inl hj)
  have wj := hC.1 j (by omega)
  obtain ⟨kj1, kj2⟩ := p1 j (fun y _ _ => by omega)
  obtain ⟨yv, yt, WY6⟩ := qz_tc (ml := ml) (rc := rc2) (kd := kd3) (ct := ct3) (uy := uy3) (cp := cp3) (e := e3) (q := 12 + 3 * T + w T) (s := j) (by omega) (by omega) (fun y hy hry => (I3.1 y hy hry).1) (by
    rw [kj1, kj2]
    exact link _ _ _ _ tj gT)
  rw [kj1, kj2] at yt
  rw [kj1] at WY6
  have trj : ∃ x, qk_T b N g (pk j) (pv' j) x ∧ ((pk j = 2 ∧ vp_in (pv' j) 120 ∧ fw3 (pv' j).toNatClampNeg = x) ∨ (¬ pk j = 2 ∧ pv' j = x)) := by
    by_cases e : pk j = 2
    · obtain ⟨i, i1, i2⟩ := gT e
      have := grc i i1
      refine ⟨nI (b + i), ⟨fun _ => ⟨i, i1, i2, rfl⟩, fun z => absurd e z⟩, Or.inl ⟨e, ?_, ?_⟩⟩
      · rw [i2]
        exact vp_in_nI this.2.2 (by decide)
      · rw [i2, qn_c (by omega), x1 i i1]
    · exact ⟨pv' j, ⟨fun z => absurd z e, fun _ => rfl⟩, Or.inr ⟨e, rfl⟩⟩
  obtain ⟨xv, xt, xw⟩ := trj
  have Ln : ∀ i, i < N → qr_L (qn_u m T (m T + N)) h (b + i) = true ∧ (b + i) / 40 = T := fun i hi => ⟨(qr_Lup hT d2 hroom).mpr (Or.inr (by omega)), by omega⟩
  have twx : qr_TW (qr_L (qn_u m T (m T + N)) h) T (pk j) xv := qk_TW2 wj xt Ln
  have tcx : qr_TC ψ (pk j) xv (kd j) yv := ql_TC tj xt yt ψn (by omega) (fun i hi => by have := grc i hi; omega)
  have hC4 := qr_mail hC3 hT hw twx tcx
  have hB0 : qh_B (pk (12 + 3 * T + w T)) (pv' (12 + 3 * T + w T)) := qr_TWB (hC.1 _ (by omega))
  have hH4 := qh_as hH3 (show 12 + 3 * T + w T < 21 by omega) (qr_TWB twx) hB0
  obtain ⟨fw4, f4, WX5⟩ := qx_forg (pk := upd pk (12 + 3 * T + w T) (pk j)) (pv := upd pv' (12 + 3 * T + w T) xv) (wt := upd wt T (nI (w T + 1))) (hf := hf') (us := us3) (hk := hk3) (hv := hv3) (tk := tk3) (tv := tv3)
    (ho := qh_l (qh_h ho3 (pk j) xv) (pk (12 + 3 * T + w T)) (pv' (12 + 3 * T + w T))) (fw := fw3) (li := li2) (N := N) (g := g) n2 (fun i hi => ⟨(grc i hi).2.2, (gL i hi).2.2⟩) x2
  have fin : i_Rel (k + 5) (nI N, upd pk (12 + 3 * T + w T) (pk j), upd pv' (12 + 3 * T + w T) xv, upd wt T (nI (w T + 1)), hf', us3, hk3, hv3, tk3, tv3, fw4, qh_l (qh_h ho3 (pk j) xv) (pk (12 + 3 * T + w T)) (pv' (12 + 3 * T + w T)), li2)
      (upd kd3 (12 + 3 * T + w T) (kd j), upd ct3 (12 + 3 * T + w T) yv, upd ml T (nI (w T + 1)), uy3, rc2, cp3) := by
    refine qr_mk ψ (qn_u m T (m T + N)) h (qn_u w T (w T + 1)) (fun q hq => ?_) hC4 f4 hH4
    obtain ⟨e1, e2, e3, e4, e5, e6, e7⟩ := hD q hq
    by_cases z : q = T
    · rw [z] at e6
      rw [z, pk_us, pk_us, qn_us, qn_us, u1]
      exact ⟨hroom, d2, by omega, rfl, rfl, e6, rfl⟩
    · rw [pk_un z, pk_un z, qn_un z, qn_un z, u2 q z]
      exact ⟨e1, e2, e3, e4, e5, e6, e7⟩
  -- Y's walk
  have Yw : ∀ post : Int32 → SY → Prop, post 0 (upd kd3 (12 + 3 * T + w T) (kd j), upd ct3 (12 + 3 * T + w T) yv, upd ml T (nI (w T + 1)), uy3, rc2, cp3) → ∃ n72, wY_send_72 post (nI T) (nI j) n72 0 kd ct ml uy' rc2 cp := fun post q => by
    refine ⟨61, WY4 post 61 (by omega) ⟨61, WY5 post 61 (by omega) (fun n' hn' => ?_)⟩⟩
    cases n' with
    | zero => omega
    | succ n' =>
      unfold wY_send_123
      rw [cT, w5, qn_mail]
      refine br_t (by decide) ⟨inT, WY6 _ ⟨inT, inT, ?_⟩⟩
      rw [w5, nI_1]
      exact nm_e q
  -- X's walk
  refine br_f (by decide) (WX3 _ ?_)
  dsimp only
  refine WX4 _ ⟨inT, ?_⟩
  dsimp only
  rw [w4, qn_mail, cj]
  refine nm_e ⟨inj, nm_e ?_⟩
  have X127 : ∀ post : Int32 → SX → Prop, post 0 (nI N, upd pk (12 + 3 * T + w T) (pk j), upd pv' (12 + 3 * T + w T) xv, upd wt T (nI (w T + 1)), hf', us3, hk3, hv3, tk3, tv3, fw4, qh_l (qh_h ho3 (pk j) xv) (pk (12 + 3 * T + w T)) (pv' (12 + 3 * T + w T)), li2) →
      wX_send_127 post (nI T) xv (pk j) (nI (12 + 3 * T + w T)) (nI N) pk pv' wt hf' us3 hk3 hv3 tk3 tv3 fw3 ho3 li2 := fun post q => by
    unfold wX_send_127
    rw [cT]
    refine qx_assign (by omega) (qr_TWB twx) hB0 ⟨inT, inT, ?_⟩
    dsimp only
    rw [w4, nI_1]
    exact nm_e (WX5 _ q)
  have ne3 : ¬ nI (w T) = 3 := fun z => by
    have := qn_inj (b := 3) (by omega) (by omega) z
    omega
  rcases xw with ⟨e, xv1, xf⟩ | ⟨e, xf⟩
  · refine br_t e ⟨inj, xv1, ?_⟩
    rw [xf]
    refine X127 _ ?_
    refine qy_bad0 hP hR (br_t rfl (qy_bad0 (R := 0) hT (by decide) (br_t rfl ⟨inT, br_f ne3 (nm_e (WY1 _ (qy_found ?_)))⟩)))
    rw [cnt1]
    exact WY2 _ (br_f (by decide) (WY3 _ (Yw _ ⟨rfl, fin⟩)))
  · refine br_f e ⟨inj, ?_⟩
    rw [xf]
    refine X127 _ ?_
    refine qy_bad0 hP hR (br_t rfl (qy_bad0 (R := 0) hT (by decide) (br_t rfl ⟨inT, br_f ne3 (nm_e (WY1 _ (qy_found ?_)))⟩)))
    rw [cnt1]
    exact WY2 _ (br_f (by decide) (WY3 _ (Yw _ ⟨rfl, fin⟩)))
end
