section
/-! pure rows to paste: stores, nI and lN arithmetic, masks, shifts, narrowing, branches by naturals (pk_le, pk_lt, pk_eq), loops (lp1 .. lp16: the measure of the state; rp1 ..: recursion), negatives. Take what you need -/
theorem pk_us {f : Nat → Int32} {k : Nat} {x : Int32} : upd f k x k = x := if_pos rfl
theorem pk_un {f : Nat → Int32} {k j : Nat} {x : Int32} (h : j ≠ k) : upd f k x j = f j := if_neg h
theorem pk_sub {a b : Nat} (h : b ≤ a) : nI a - nI b = nI (a - b) := by
  obtain ⟨c, rfl⟩ : ∃ c, a = c + b := ⟨a - b, by omega⟩
  rw [← nI_add, Int32.add_sub_cancel, Nat.add_sub_cancel]
theorem pk_m1 (n : Nat) : nI (n + 1) + (-1) = nI n := by
  rw [← nI_1, Int32.add_assoc, show (1 : Int32) + (-1) = 0 from rfl, Int32.add_zero]
theorem pk_mul (a b : Nat) : nI a * nI b = nI (a * b) := (Int32.ofNat_mul a b).symm
theorem pk_div {a d : Nat} (ha : a < 2 ^ 31) (h0 : 0 < d) (hd : d < 2 ^ 31) : nI a / nI d = nI (a / d) := by
  apply Int32.toInt_inj.mp
  rw [lg_idiv_nonneg (by rw [nI_toInt ha]; omega) (by rw [nI_toInt hd]; omega), nI_toInt ha, nI_toInt hd, nI_toInt (Nat.lt_of_le_of_lt (Nat.div_le_self a d) ha)]
  first | rfl | exact (Int.natCast_ediv _ _).symm
theorem pk_rem {a d : Nat} (ha : a < 2 ^ 31) (h0 : 0 < d) (hd : d < 2 ^ 31) : nI a - nI a / nI d * nI d = nI (a % d) := by
  rw [pk_div ha h0 hd, pk_mul, pk_sub (Nat.div_mul_le_self a d)]
  exact congrArg nI (by have := Nat.div_add_mod' a d; omega)
theorem pk_sub_toInt {a b : Nat} (ha : a < 2 ^ 30) (hb : b < 2 ^ 30) : (nI a - nI b).toInt = (a : Int) - b := by
  rw [Int32.toInt_sub, nI_toInt (by omega), nI_toInt (by omega)]
  exact Int.bmod_eq_of_le (by omega) (by omega)
theorem pk_sneg {a b : Nat} (hb : b < 2 ^ 30) (h : a < b) : nI a - nI b < 0 := by
  rw [Int32.lt_iff_toInt_lt, pk_sub_toInt (by omega) hb, show (0 : Int32).toInt = 0 from by decide]
  omega
theorem pk_ix (x : Int32) {n : Nat} (hn : n < 2 ^ 31) : x < 0 ∨ nI n ≤ x ∨ ∃ j : Nat, j < n ∧ x = nI j := by
  by_cases h : x < 0
  · exact Or.inl h
  · obtain ⟨j, hj, rfl⟩ := nI_of h
    by_cases h2 : j < n
    · exact Or.inr (Or.inr ⟨j, h2, rfl⟩)
    · exact Or.inr (Or.inl (nI_le (by omega) hj))
theorem pk_le {x y : Int32} {A B : Prop} (a b : Nat) (f : a ≤ b → A) (g : b < a → B) (hx : x = nI a := by rfl) (hy : y = nI b := by rfl) (ha : a < 2 ^ 31 := by omega) (hb : b < 2 ^ 31 := by omega) : (x ≤ y → A) ∧ (¬ x ≤ y → B) := by
  subst hx hy
  rw [nI_leI ha hb]
  exact ⟨f, fun z => g (by omega)⟩
theorem pk_lt {x y : Int32} {A B : Prop} (a b : Nat) (f : a < b → A) (g : b ≤ a → B) (hx : x = nI a := by rfl) (hy : y = nI b := by rfl) (ha : a < 2 ^ 31 := by omega) (hb : b < 2 ^ 31 := by omega) : (x < y → A) ∧ (¬ x < y → B) := by
  subst hx hy
  rw [nI_ltI ha hb]
  exact ⟨f, fun z => g (by omega)⟩
theorem pk_eq {x y : Int32} {A B : Prop} (a b : Nat) (f : a = b → A) (g : a ≠ b → B) (hx : x = nI a := by rfl) (hy : y = nI b := by rfl) (ha : a < 2 ^ 31 := by omega) (hb : b < 2 ^ 31 := by omega) : (x = y → A) ∧ (¬ x = y → B) := by
  subst hx hy
  rw [nI_eq ha hb]
  exact ⟨f, g⟩
theorem pk_in {x : Int32} (n N : Nat) (h : n < N) (hx : x = nI n := by rfl) (hN : N < 2 ^ 31 := by omega) : vp_in x N := by
  subst hx
  exact vp_in_nI h hN
theorem pk_cl {x : Int32} (n : Nat) (hx : x = nI n := by rfl) (h : n < 2 ^ 31 := by omega) : x.toNatClampNeg = n := by
  subst hx
  exact nI_clamp h
end
section
/-! running sums; the slots: slot 4 * r + g is group g of record r; a record without groups has one empty slot, 4 * r -/
def dr_sm (f : Nat → Nat) : Nat → Nat
  | 0 => 0
  | n + 1 => dr_sm f n + f n
theorem dr_sm_s (f : Nat → Nat) (n : Nat) : dr_sm f (n + 1) = dr_sm f n + f n := rfl
theorem dr_sm_c {f g : Nat → Nat} : ∀ n : Nat, (∀ i, i < n → f i = g i) → dr_sm f n = dr_sm g n := by
  intro n
  induction n with
  | zero => intro _; rfl
  | succ n ih =>
    intro h
    rw [dr_sm_s, dr_sm_s, ih (fun i hi => h i (by omega)), h n (by omega)]
theorem dr_sm_le (f : Nat → Nat) {a b : Nat} (h : a ≤ b) : dr_sm f a ≤ dr_sm f b := by
  induction b with
  | zero =>
    have e : a = 0 := by omega
    subst e
    exact Nat.le_refl _
  | succ b ih =>
    by_cases e : a = b + 1
    · subst e; exact Nat.le_refl _
    · rw [dr_sm_s]
      have := ih (by omega)
      omega
theorem dr_sm_al (f : Nat → Nat) {a b : Nat} (h : a < b) : dr_sm f a + f a ≤ dr_sm f b := dr_sm_le f (a := a + 1) h
theorem dr_sm_mono {f g : Nat → Nat} (h : ∀ i, f i ≤ g i) : ∀ n, dr_sm f n ≤ dr_sm g n := by
  intro n
  induction n with
  | zero => exact Nat.le_refl _
  | succ n ih =>
    rw [dr_sm_s, dr_sm_s]
    have := h n
    omega
theorem dr_sm_1 {f : Nat → Nat} (h : ∀ i, f i ≤ 1) : ∀ n, dr_sm f n ≤ n := by
  intro n
  induction n with
  | zero => exact Nat.le_refl _
  | succ n ih =>
    rw [dr_sm_s]
    have := h n
    omega
theorem dr_sm_0 {f : Nat → Nat} {a : Nat} : ∀ b, a ≤ b → (∀ i, a ≤ i → i < b → f i = 0) → dr_sm f b = dr_sm f a := by
  intro b
  induction b with
  | zero =>
    intro h _
    have e : a = 0 := by omega
    subst e
    rfl
  | succ b ih =>
    intro h h0
    by_cases e : a = b + 1
    · subst e; rfl
    · rw [dr_sm_s, ih (by omega) (fun i h1 h2 => h0 i h1 (by omega)), h0 b (by omega) (by omega)]
      omega
theorem dr_next (f : Nat → Nat) {a : Nat} : ∀ b, a ≤ b → dr_sm f b = dr_sm f a ∨ ∃ c, a ≤ c ∧ c < b ∧ 0 < f c ∧ dr_sm f c = dr_sm f a := by
  intro b
  induction b with
  | zero =>
    intro h
    have e : a = 0 := by omega
    subst e
    exact Or.inl rfl
  | succ b ih =>
    intro h
    by_cases e : a = b + 1
    · subst e; exact Or.inl rfl
    · cases ih (by omega) with
      | inl h1 =>
        by_cases h0 : f b = 0
        · exact Or.inl (by rw [dr_sm_s]; omega)
        · exact Or.inr ⟨b, by omega, by omega, by omega, h1⟩
      | inr h1 =>
        obtain ⟨c, h2, h3, h4, h5⟩ := h1
        exact Or.inr ⟨c, h2, by omega, h4, h5⟩
def dr_rl (gn : Nat → Nat) (a : Nat) : Nat := if a % 4 < gn (a / 4) then 1 else 0
def dr_wT (gn : Nat → Nat) (a : Nat) : Nat := if a % 4 = 0 ∨ a % 4 < gn (a / 4) then 1 else 0
def dr_wV (gn vn : Nat → Nat) (a : Nat) : Nat := if 0 < vn a then vn a else dr_wT gn a
def dr_ag (a : Nat) : Nat := if a % 4 = 0 then 0 else 1
def dr_td (gn tg : Nat → Nat) (a : Nat) : Nat := if a % 4 < gn (a / 4) then 1 + tg a else 0
def dr_va (a j : Nat) : Nat := if j = 0 then dr_ag a else 2
def dr_vd (gn vn : Nat → Nat) (a : Nat) : Nat := if 0 < vn a then 2 else dr_rl gn a
def dr_M (E : Nat) (gn : Nat → Nat) : Nat := 4 * E + gn E
def dr_Mv (E : Nat) (gn vn : Nat → Nat) : Nat := if 0 < gn E ∧ vn (4 * E + gn E - 1) = 0 then 4 * E + gn E - 1 else 4 * E + gn E
def dr_up (f : Nat → Nat) (k x : Nat) : Nat → Nat := fun j => if j = k then x else f j
theorem dr_us {f : Nat → Nat} {k x : Nat} : dr_up f k x k = x := if_pos rfl
theorem dr_un {f : Nat → Nat} {k j x : Nat} (h : j ≠ k) : dr_up f k x j = f j := if_neg h
theorem dr_wT_1 (gn : Nat → Nat) (a : Nat) : dr_wT gn a ≤ 1 := by
  unfold dr_wT
  split <;> omega
theorem dr_wT_r {gn : Nat → Nat} {a : Nat} (h : a % 4 < gn (a / 4)) : dr_wT gn a = 1 := if_pos (Or.inr h)
theorem dr_wT_z {gn : Nat → Nat} {a : Nat} (h : a % 4 = 0) : dr_wT gn a = 1 := if_pos (Or.inl h)
theorem dr_wT_e {gn : Nat → Nat} {a : Nat} (h : ¬ dr_wT gn a = 1) : a % 4 ≠ 0 ∧ gn (a / 4) ≤ a % 4 := by
  unfold dr_wT at h
  split at h <;> omega
theorem dr_wT_p {gn : Nat → Nat} {a : Nat} (h : dr_wT gn a = 1) : a % 4 = 0 ∨ a % 4 < gn (a / 4) := by
  unfold dr_wT at h
  split at h
  · assumption
  · omega
theorem dr_wT_0 {gn : Nat → Nat} {a : Nat} (h : ¬ dr_wT gn a = 1) : dr_wT gn a = 0 := by
  have := dr_wT_1 gn a
  omega
theorem dr_bT (gn : Nat → Nat) : ∀ n, dr_sm (dr_wT gn) n ≤ dr_sm (dr_rl gn) n + (n + 3) / 4 := by
  intro n
  induction n with
  | zero => exact Nat.zero_le _
  | succ n ih =>
    rw [dr_sm_s, dr_sm_s]
    have h : dr_wT gn n ≤ dr_rl gn n + (if n % 4 = 0 then 1 else 0) := by
      unfold dr_wT dr_rl
      split <;> split <;> split <;> omega
    split at h <;> omega
theorem dr_bV (gn vn : Nat → Nat) (hv : ∀ a, 0 < vn a → a % 4 < gn (a / 4)) : ∀ n, dr_sm (dr_wV gn vn) n ≤ dr_sm vn n + dr_sm (dr_rl gn) n + (n + 3) / 4 := by
  intro n
  induction n with
  | zero => exact Nat.zero_le _
  | succ n ih =>
    rw [dr_sm_s, dr_sm_s, dr_sm_s]
    have h : dr_wV gn vn n ≤ vn n + dr_rl gn n + (if n % 4 = 0 then 1 else 0) := by
      unfold dr_wV dr_wT dr_rl
      repeat' split
      all_goals omega
    split at h <;> omega
/-- what holds of the ghost: E records are ended, op = 1 if one more has begun; gn r: its groups; of slot a: vn a its values, tg a whether it has a tag; nd r: whether record r has a note -/
def dr_G (E op : Nat) (gn vn tg nd : Nat → Nat) : Prop :=
  (E + op ≤ 12 ∧ op ≤ 1) ∧ ((∀ r, gn r ≤ 4) ∧ (∀ r, E + op ≤ r → gn r = 0)) ∧ ((∀ a, vn a ≤ 4) ∧ (∀ a, 0 < vn a → a % 4 < gn (a / 4))) ∧ ((∀ a, tg a ≤ 1) ∧ (∀ a, 0 < tg a → a % 4 < gn (a / 4))) ∧ ((∀ r, nd r ≤ 1) ∧ (∀ r, E + op ≤ r → nd r = 0)) ∧ (dr_sm (dr_rl gn) (dr_M E gn) ≤ 40 ∧ dr_sm vn (dr_M E gn) ≤ 60)
def dr_TC (M : Nat) (gn tg : Nat → Nat) (tA tD : Nat → Int32) : Prop := ∀ a, a < M → dr_wT gn a = 1 → tA (dr_sm (dr_wT gn) a) = nI (dr_ag a) ∧ tD (dr_sm (dr_wT gn) a) = nI (dr_td gn tg a)
def dr_VC (M : Nat) (gn vn : Nat → Nat) (vA vD : Nat → Int32) : Prop := ∀ a, a < M → ∀ j, j < dr_wV gn vn a → vA (dr_sm (dr_wV gn vn) a + j) = nI (dr_va a j) ∧ vD (dr_sm (dr_wV gn vn) a + j) = nI (dr_vd gn vn a)
section
variable {E op : Nat} {gn vn tg nd : Nat → Nat}
theorem dr_G_E (h : dr_G E op gn vn tg nd) : E + op ≤ 12 ∧ op ≤ 1 := h.1
theorem dr_G_g (h : dr_G E op gn vn tg nd) (r : Nat) : gn r ≤ 4 := h.2.1.1 r
theorem dr_G_g0 (h : dr_G E op gn vn tg nd) {r : Nat} (hr : E + op ≤ r) : gn r = 0 := h.2.1.2 r hr
theorem dr_G_v (h : dr_G E op gn vn tg nd) (a : Nat) : vn a ≤ 4 := h.2.2.1.1 a
theorem dr_G_vr (h : dr_G E op gn vn tg nd) : ∀ a, 0 < vn a → a % 4 < gn (a / 4) := h.2.2.1.2
theorem dr_G_t (h : dr_G E op gn vn tg nd) (a : Nat) : tg a ≤ 1 := h.2.2.2.1.1 a
theorem dr_G_tr (h : dr_G E op gn vn tg nd) : ∀ a, 0 < tg a → a % 4 < gn (a / 4) := h.2.2.2.1.2
theorem dr_G_n (h : dr_G E op gn vn tg nd) (r : Nat) : nd r ≤ 1 := h.2.2.2.2.1.1 r
theorem dr_G_n0 (h : dr_G E op gn vn tg nd) {r : Nat} (hr : E + op ≤ r) : nd r = 0 := h.2.2.2.2.1.2 r hr
theorem dr_G_40 (h : dr_G E op gn vn tg nd) : dr_sm (dr_rl gn) (dr_M E gn) ≤ 40 := h.2.2.2.2.2.1
theorem dr_G_60 (h : dr_G E op gn vn tg nd) : dr_sm vn (dr_M E gn) ≤ 60 := h.2.2.2.2.2.2
theorem dr_G_op (h : dr_G E op gn vn tg nd) (hg : 0 < gn E) : op = 1 := by
  have h1 := dr_G_E h
  by_cases e : op = 1
  · exact e
  · have := dr_G_g0 h (r := E) (by omega)
    omega
theorem dr_M_48 (h : dr_G E op gn vn tg nd) : dr_M E gn ≤ 48 := by
  have h1 := dr_G_E h
  have h2 := dr_G_g h E
  unfold dr_M
  by_cases e : E < 12
  · omega
  · have := dr_G_g0 h (r := E) (by omega)
    omega
theorem dr_real (h : dr_G E op gn vn tg nd) {a : Nat} (ha : a % 4 < gn (a / 4)) : a < dr_M E gn := by
  have h1 := dr_G_E h
  unfold dr_M
  by_cases e : a / 4 < E
  · omega
  · by_cases e2 : a / 4 = E
    · rw [e2] at ha
      omega
    · have := dr_G_g0 h (r := a / 4) (by omega)
      omega
theorem dr_G_T (h : dr_G E op gn vn tg nd) : dr_sm (dr_wT gn) (dr_M E gn) ≤ 52 := by
  have h1 := dr_bT gn (dr_M E gn)
  have h2 := dr_M_48 h
  have h3 := dr_G_40 h
  omega
theorem dr_G_V (h : dr_G E op gn vn tg nd) : dr_sm (dr_wV gn vn) (dr_M E gn) ≤ 112 := by
  have h1 := dr_bV gn vn (dr_G_vr h) (dr_M E gn)
  have h2 := dr_M_48 h
  have h3 := dr_G_40 h
  have h4 := dr_G_60 h
  omega
theorem dr_G_tg (h : dr_G E op gn vn tg nd) : dr_sm tg (dr_M E gn) ≤ dr_sm (dr_rl gn) (dr_M E gn) := by
  apply dr_sm_mono
  intro a
  have h1 := dr_G_t h a
  by_cases e : 0 < tg a
  · have h2 : dr_rl gn a = 1 := if_pos (dr_G_tr h a e)
    omega
  · omega
theorem dr_Mv_le : dr_Mv E gn vn ≤ dr_M E gn := by
  unfold dr_Mv dr_M
  split <;> omega
theorem dr_Mv_ge : 4 * E ≤ dr_Mv E gn vn := by
  unfold dr_Mv
  split <;> omega
theorem dr_Mv_V (h : dr_G E op gn vn tg nd) : dr_sm (dr_wV gn vn) (dr_Mv E gn vn) ≤ 112 := Nat.le_trans (dr_sm_le _ dr_Mv_le) (dr_G_V h)
end
end
section
/-! the relation: both states against one ghost -/
def dr_X (E op : Nat) (gn vn tg nd : Nat → Nat) (f_isOpen : Int32) (f_begun : Int32) (f_ended : Int32) (f_noteCount : Int32) (f_tagEntries : Int32) (f_tagCount : Int32) (f_valueEntries : Int32) (f_valueCount : Int32) (f_openGroups : Int32) (f_openValues : Int32) (f_groupCount : Int32) (a_noteThere : Nat → Int32) (a_tagAgain : Nat → Int32) (a_tagDepth : Nat → Int32) (a_valueAgain : Nat → Int32) (a_valueDepth : Nat → Int32) : Prop :=
  (f_isOpen = nI op ∧ f_begun = nI (E + op) ∧ f_ended = nI E ∧ f_noteCount = nI (dr_sm nd (E + op))) ∧
  (f_tagEntries = nI (dr_sm (dr_wT gn) (dr_M E gn)) ∧ f_tagCount = nI (dr_sm tg (dr_M E gn))) ∧
  (f_valueEntries = nI (dr_sm (dr_wV gn vn) (dr_Mv E gn vn)) ∧ f_valueCount = nI (dr_sm vn (dr_M E gn)) ∧ f_groupCount = nI (dr_sm (dr_rl gn) (dr_M E gn))) ∧
  ((op = 1 → f_openGroups = nI (gn E)) ∧ (0 < gn E → f_openValues = nI (vn (dr_M E gn - 1)))) ∧
  ((∀ r, a_noteThere r = nI (nd r)) ∧ dr_TC (dr_M E gn) gn tg a_tagAgain a_tagDepth ∧ dr_VC (dr_Mv E gn vn) gn vn a_valueAgain a_valueDepth)
def dr_Y (E op : Nat) (gn vn tg nd : Nat → Nat) (g_records : Int32) (g_open : Int32) (g_allGroups : Int32) (g_allValues : Int32) (b_noted : Nat → Int32) (b_groupsOf : Nat → Int32) (b_tagged : Nat → Int32) (b_valuesOf : Nat → Int32) : Prop :=
  (g_records = nI (E + op) ∧ g_open = nI op ∧ g_allGroups = nI (dr_sm (dr_rl gn) (dr_M E gn)) ∧ g_allValues = nI (dr_sm vn (dr_M E gn))) ∧
  ((∀ r, b_noted r = nI (nd r)) ∧ (∀ r, b_groupsOf r = nI (gn r)) ∧ (∀ a, b_tagged a = nI (tg a)) ∧ (∀ a, b_valuesOf a = nI (vn a)))
def dr_L (vn tg nd : Nat → Nat) (a_notes a_tags a_values b_notes b_tags b_values : Nat → Int32) : Prop :=
  ((∀ r, nd r = 1 → a_notes (dr_sm nd r) = b_notes r) ∧ (∀ r, nd r = 0 → b_notes r = 0)) ∧
  ((∀ a, tg a = 1 → a_tags (dr_sm tg a) = b_tags a) ∧ (∀ a, tg a = 0 → b_tags a = 0)) ∧
  (∀ a j, j < vn a → a_values (dr_sm vn a + j) = b_values (4 * a + j))
def i_Rel (_ : Nat) (u : SX) (v : SY) : Prop := match u, v with
  | (f_isOpen, f_begun, f_ended, f_noteCount, f_tagEntries, f_tagCount, f_valueEntries, f_valueCount, f_openGroups, f_openValues, f_groupCount, _, _, a_noteThere, a_notes, a_tagAgain, a_tagDepth, a_tags, a_valueAgain, a_valueDepth, a_values), (g_records, g_open, g_allGroups, g_allValues, b_noted, b_notes, b_groupsOf, b_tagged, b_tags, b_valuesOf, b_values) => ∃ (E op : Nat) (gn vn tg nd : Nat → Nat), dr_G E op gn vn tg nd ∧ dr_X E op gn vn tg nd f_isOpen f_begun f_ended f_noteCount f_tagEntries f_tagCount f_valueEntries f_valueCount f_openGroups f_openValues f_groupCount a_noteThere a_tagAgain a_tagDepth a_valueAgain a_valueDepth ∧ dr_Y E op gn vn tg nd g_records g_open g_allGroups g_allValues b_noted b_groupsOf b_tagged b_valuesOf ∧ dr_L vn tg nd a_notes a_tags a_values b_notes b_tags b_values
theorem dr_el {k : Nat} {u : SX} {v : SY} {P : SX → SY → Prop} (I : i_Rel k u v) (h : ∀ (f_isOpen : Int32) (f_begun : Int32) (f_ended : Int32) (f_noteCount : Int32) (f_tagEntries : Int32) (f_tagCount : Int32) (f_valueEntries : Int32) (f_valueCount : Int32) (f_openGroups : Int32) (f_openValues : Int32) (f_groupCount : Int32) (f_found : Int32) (f_passed : Int32) (a_noteThere : Nat → Int32) (a_notes : Nat → Int32) (a_tagAgain : Nat → Int32) (a_tagDepth : Nat → Int32) (a_tags : Nat → Int32) (a_valueAgain : Nat → Int32) (a_valueDepth : Nat → Int32) (a_values : Nat → Int32) (g_records : Int32) (g_open : Int32) (g_allGroups : Int32) (g_allValues : Int32) (b_noted : Nat → Int32) (b_notes : Nat → Int32) (b_groupsOf : Nat → Int32) (b_tagged : Nat → Int32) (b_tags : Nat → Int32) (b_valuesOf : Nat → Int32) (b_values : Nat → Int32) (E op : Nat) (gn vn tg nd : Nat → Nat), dr_G E op gn vn tg nd → dr_X E op gn vn tg nd f_isOpen f_begun f_ended f_noteCount f_tagEntries f_tagCount f_valueEntries f_valueCount f_openGroups f_openValues f_groupCount a_noteThere a_tagAgain a_tagDepth a_valueAgain a_valueDepth → dr_Y E op gn vn tg nd g_records g_open g_allGroups g_allValues b_noted b_groupsOf b_tagged b_valuesOf → dr_L vn tg nd a_notes a_tags a_values b_notes b_tags b_values → P (f_isOpen, f_begun, f_ended, f_noteCount, f_tagEntries, f_tagCount, f_valueEntries, f_valueCount, f_openGroups, f_openValues, f_groupCount, f_found, f_passed, a_noteThere, a_notes, a_tagAgain, a_tagDepth, a_tags, a_valueAgain, a_valueDepth, a_values) (g_records, g_open, g_allGroups, g_allValues, b_noted, b_notes, b_groupsOf, b_tagged, b_tags, b_valuesOf, b_values)) : P u v := by
  obtain ⟨f_isOpen, f_begun, f_ended, f_noteCount, f_tagEntries, f_tagCount, f_valueEntries, f_valueCount, f_openGroups, f_openValues, f_groupCount, f_found, f_passed, a_noteThere, a_notes, a_tagAgain, a_tagDepth, a_tags, a_valueAgain, a_valueDepth, a_values⟩ := u
  obtain ⟨g_records, g_open, g_allGroups, g_allValues, b_noted, b_notes, b_groupsOf, b_tagged, b_tags, b_valuesOf, b_values⟩ := v
  obtain ⟨E, op, gn, vn, tg, nd, hG, hX, hY, hL⟩ := I
  exact h f_isOpen f_begun f_ended f_noteCount f_tagEntries f_tagCount f_valueEntries f_valueCount f_openGroups f_openValues f_groupCount f_found f_passed a_noteThere a_notes a_tagAgain a_tagDepth a_tags a_valueAgain a_valueDepth a_values g_records g_open g_allGroups g_allValues b_noted b_notes b_groupsOf b_tagged b_tags b_valuesOf b_values E op gn vn tg nd hG hX hY hL
section
variable {f_isOpen f_begun f_ended f_noteCount f_tagEntries f_tagCount f_valueEntries f_valueCount f_openGroups f_openValues f_groupCount f_found f_passed : Int32} {a_noteThere a_notes a_tagAgain a_tagDepth a_tags a_valueAgain a_valueDepth a_values : Nat → Int32}
variable {g_records g_open g_allGroups g_allValues : Int32} {b_noted b_notes b_groupsOf b_tagged b_tags b_valuesOf b_values : Nat → Int32}
variable {E op : Nat} {gn vn tg nd : Nat → Nat}
theorem dr_in (k : Nat) (hG : dr_G E op gn vn tg nd) (hX : dr_X E op gn vn tg nd f_isOpen f_begun f_ended f_noteCount f_tagEntries f_tagCount f_valueEntries f_valueCount f_openGroups f_openValues f_groupCount a_noteThere a_tagAgain a_tagDepth a_valueAgain a_valueDepth) (hY : dr_Y E op gn vn tg nd g_records g_open g_allGroups g_allValues b_noted b_groupsOf b_tagged b_valuesOf) (hL : dr_L vn tg nd a_notes a_tags a_values b_notes b_tags b_values) : i_Rel k (f_isOpen, f_begun, f_ended, f_noteCount, f_tagEntries, f_tagCount, f_valueEntries, f_valueCount, f_openGroups, f_openValues, f_groupCount, f_found, f_passed, a_noteThere, a_notes, a_tagAgain, a_tagDepth, a_tags, a_valueAgain, a_valueDepth, a_values) (g_records, g_open, g_allGroups, g_allValues, b_noted, b_notes, b_groupsOf, b_tagged, b_tags, b_valuesOf, b_values) := ⟨E, op, gn, vn, tg, nd, hG, hX, hY, hL⟩
end
theorem i_up {k : Nat} {u : SX} {v : SY} (h : i_Rel k u v) : i_Rel (k + 4) u v := h
theorem i_vc0 : wpX_init (fun u => wpY_init (fun v => i_Rel 0 u v)) := by
  refine ⟨0, 0, fun _ => 0, fun _ => 0, fun _ => 0, fun _ => 0, ?_, ?_, ?_, ?_⟩
  · exact ⟨⟨by omega, by omega⟩, ⟨fun _ => Nat.zero_le _, fun _ _ => rfl⟩, ⟨fun _ => Nat.zero_le _, fun _ h => absurd h (Nat.lt_irrefl 0)⟩, ⟨fun _ => Nat.zero_le _, fun _ h => absurd h (Nat.lt_irrefl 0)⟩, ⟨fun _ => Nat.zero_le _, fun _ _ => rfl⟩, ⟨Nat.zero_le _, Nat.zero_le _⟩⟩
  · exact ⟨⟨rfl, rfl, rfl, rfl⟩, ⟨rfl, rfl⟩, ⟨rfl, rfl, rfl⟩, ⟨fun h => absurd h (by decide), fun h => absurd h (Nat.lt_irrefl 0)⟩, ⟨fun _ => rfl, fun a h => absurd h (Nat.not_lt_zero a), fun a h => absurd h (Nat.not_lt_zero a)⟩⟩
  · exact ⟨⟨rfl, rfl, rfl, rfl⟩, ⟨fun _ => rfl, fun _ => rfl, fun _ => rfl, fun _ => rfl⟩⟩
  · exact ⟨⟨fun _ h => absurd h Nat.zero_ne_one, fun _ _ => rfl⟩, ⟨fun _ h => absurd h Nat.zero_ne_one, fun _ _ => rfl⟩, fun _ j h => absurd h (Nat.not_lt_zero j)⟩
end
section
/-! the component: findTag, groups, isGroup -/
theorem dr_r1 {a : Nat} (h : a % 4 = 0) : nI ((a + 3) / 4) - 1 + 1 = nI (a / 4) := by
  rw [Int32.sub_add_cancel]
  exact congrArg nI (by omega)
theorem dr_r2 (a : Nat) : nI ((a + 1 + 3) / 4) - 1 = nI (a / 4) := by
  rw [show (a + 1 + 3) / 4 = a / 4 + 1 from by omega]
  exact nI_pred _
theorem dr_r0 {a : Nat} (h : ¬ a % 4 = 0) : nI ((a + 3) / 4) - 1 + 0 = nI (a / 4) := by
  rw [Int32.add_zero, show (a + 3) / 4 = a / 4 + 1 from by omega]
  exact nI_pred _
theorem dr_ag_0 {a : Nat} (h : a % 4 = 0) : nI (dr_ag a) = 0 := by
  unfold dr_ag
  rw [if_pos h]
  exact nI_0
theorem dr_ag_1 {a : Nat} (h : ¬ a % 4 = 0) : nI (dr_ag a) = 1 := by
  unfold dr_ag
  rw [if_neg h]
  rfl
theorem dr_2 {x : Nat} (h : x < 2) : ¬ nI x = 2 := by
  intro z
  have := (nI_eq (a := x) (b := 2) (by omega) (by omega)).mp z
  omega
theorem dr_m1 : nI ((0 + 3) / 4) - 1 = -1 := by decide
section
variable {f_isOpen f_begun f_ended f_noteCount f_tagEntries f_tagCount f_valueEntries f_valueCount f_openGroups f_openValues f_groupCount f_found f_passed : Int32} {a_noteThere a_notes a_tagAgain a_tagDepth a_tags a_valueAgain a_valueDepth a_values : Nat → Int32}
section
variable {gn tg : Nat → Nat} {M : Nat}
theorem dr_ftb {post : SX → Prop} {x1 x2 g : Int32} {a p n : Nat} (hT : dr_TC M gn tg a_tagAgain a_tagDepth) (hE : f_tagEntries = nI (dr_sm (dr_wT gn) M)) (hb : dr_sm (dr_wT gn) M ≤ 52) (ha : a < M) (hw : dr_wT gn a = 1) (hg : ¬ a % 4 = 0 → g = nI (a % 4 - 1)) (K : wX_findTag_63 post (wX_findTag_18 post x1 x2 f_isOpen f_begun f_ended f_noteCount f_tagEntries f_tagCount f_valueEntries f_valueCount f_openGroups f_openValues f_groupCount f_found a_noteThere a_notes a_tagAgain a_tagDepth a_tags a_valueAgain a_valueDepth a_values n) x1 x2 (nI (a / 4)) (nI (dr_sm (dr_wT gn) a)) (nI (a % 4)) f_isOpen f_begun f_ended f_noteCount f_tagEntries f_tagCount f_valueEntries f_valueCount f_openGroups f_openValues f_groupCount f_found (nI p) a_noteThere a_notes a_tagAgain a_tagDepth a_tags a_valueAgain a_valueDepth a_values) : wX_findTag_18 post x1 x2 f_isOpen f_begun f_ended f_noteCount f_tagEntries f_tagCount f_valueEntries f_valueCount f_openGroups f_openValues f_groupCount f_found a_noteThere a_notes a_tagAgain a_tagDepth a_tags a_valueAgain a_valueDepth a_values (n + 1) (nI ((a + 3) / 4) - 1) g (nI (dr_sm (dr_wT gn) a)) (nI p) := by
  have hs := dr_sm_al (dr_wT gn) ha
  have h1 : ¬ f_tagEntries ≤ nI (dr_sm (dr_wT gn) a) := by rw [hE]; exact nI_ge (by omega) (by omega)
  have hi : vp_in (nI (dr_sm (dr_wT gn) a)) 52 := vp_in_nI (by omega) (by omega)
  have hA : a_tagAgain (nI (dr_sm (dr_wT gn) a)).toNatClampNeg = nI (dr_ag a) := by rw [nI_clamp (by omega)]; exact (hT a ha hw).1
  by_cases h0 : a % 4 = 0
  · have e : a_tagAgain (nI (dr_sm (dr_wT gn) a)).toNatClampNeg = 0 := by rw [hA]; exact dr_ag_0 h0
    rw [h0, nI_0] at K
    exact br_f h1 (And.intro hi (br_t e (nm_r (dr_r1 h0) (And.intro hi (br_t e K)))))
  · have e : ¬ a_tagAgain (nI (dr_sm (dr_wT gn) a)).toNatClampNeg = 0 := by rw [hA, dr_ag_1 h0]; decide
    have eg : g + 1 = nI (a % 4) := by
      rw [hg h0, nI_1]
      exact congrArg nI (by omega)
    rw [← eg] at K
    exact br_f h1 (And.intro hi (br_f e (nm_r (dr_r0 h0) (And.intro hi (br_f e K)))))
theorem dr_ft {post : SX → Prop} {r q : Nat} (hT : dr_TC M gn tg a_tagAgain a_tagDepth) (hE : f_tagEntries = nI (dr_sm (dr_wT gn) M)) (hb : dr_sm (dr_wT gn) M ≤ 52) (ht : ∀ a, tg a ≤ 1) (htr : ∀ a, 0 < tg a → a % 4 < gn (a / 4)) (hM : M ≤ 48) (hq : q < 4) (hA : 4 * r + q < M) (hw : dr_wT gn (4 * r + q) = 1) (hp : post (f_isOpen, f_begun, f_ended, f_noteCount, f_tagEntries, f_tagCount, f_valueEntries, f_valueCount, f_openGroups, f_openValues, f_groupCount, nI (dr_sm (dr_wT gn) (4 * r + q)), nI (dr_sm tg (4 * r + q)), a_noteThere, a_notes, a_tagAgain, a_tagDepth, a_tags, a_valueAgain, a_valueDepth, a_values)) : ∀ (d n a : Nat) (g : Int32), a + d = 4 * r + q → d < n → (¬ a % 4 = 0 → dr_wT gn a = 1 → g = nI (a % 4 - 1)) → wX_findTag_18 post (nI r) (nI q) f_isOpen f_begun f_ended f_noteCount f_tagEntries f_tagCount f_valueEntries f_valueCount f_openGroups f_openValues f_groupCount f_found a_noteThere a_notes a_tagAgain a_tagDepth a_tags a_valueAgain a_valueDepth a_values n (nI ((a + 3) / 4) - 1) g (nI (dr_sm (dr_wT gn) a)) (nI (dr_sm tg a)) := by
  intro d
  induction d with
  | zero =>
    intro n a g e hn hg
    have e' : a = 4 * r + q := by omega
    subst e'
    obtain ⟨n, rfl⟩ : ∃ m, n = m + 1 := ⟨n - 1, by omega⟩
    have e1 : nI ((4 * r + q) / 4) = nI r := congrArg nI (by omega)
    have e2 : nI ((4 * r + q) % 4) = nI q := congrArg nI (by omega)
    exact dr_ftb hT hE hb hA hw (fun h => hg h hw) (br_t e1 (br_t e2 hp))
  | succ d ih =>
    intro n a g e hn hg
    by_cases hwa : dr_wT gn a = 1
    · obtain ⟨n, rfl⟩ : ∃ m, n = m + 1 := ⟨n - 1, by omega⟩
      have ha : a < M := by omega
      have hs := dr_sm_al (dr_wT gn) ha
      have hi : vp_in (nI (dr_sm (dr_wT gn) a)) 52 := vp_in_nI (by omega) (by omega)
      have hD : a_tagDepth (nI (dr_sm (dr_wT gn) a)).toNatClampNeg = nI (dr_td gn tg a) := by rw [nI_clamp (by omega)]; exact (hT a ha hwa).2
      have J := ih n (a + 1) (nI (a % 4)) (by omega) (by omega) (fun h3 _ => congrArg nI (by omega))
      rw [dr_r2] at J
      have eE : nI (dr_sm (dr_wT gn) a) + 1 = nI (dr_sm (dr_wT gn) (a + 1)) := by rw [nI_1, dr_sm_s, hwa]
      have K : wX_findTag_83 post (wX_findTag_18 post (nI r) (nI q) f_isOpen f_begun f_ended f_noteCount f_tagEntries f_tagCount f_valueEntries f_valueCount f_openGroups f_openValues f_groupCount f_found a_noteThere a_notes a_tagAgain a_tagDepth a_tags a_valueAgain a_valueDepth a_values n) (nI r) (nI q) (nI (a / 4)) (nI (a % 4)) (nI (dr_sm (dr_wT gn) a)) f_isOpen f_begun f_ended f_noteCount f_tagEntries f_tagCount f_valueEntries f_valueCount f_openGroups f_openValues f_groupCount f_found (nI (dr_sm tg a)) a_noteThere a_notes a_tagAgain a_tagDepth a_tags a_valueAgain a_valueDepth a_values := by
        refine And.intro hi ?_
        have ht1 := ht a
        by_cases h2 : tg a = 1
        · have h3 : a_tagDepth (nI (dr_sm (dr_wT gn) a)).toNatClampNeg = 2 := by
            rw [hD]
            unfold dr_td
            rw [if_pos (htr a (by omega)), h2]
            rfl
          have eP : nI (dr_sm tg a) + 1 = nI (dr_sm tg (a + 1)) := by rw [nI_1, dr_sm_s, h2]
          exact br_t h3 (nm_r eP (nm_r eE J))
        · have h3 : ¬ a_tagDepth (nI (dr_sm (dr_wT gn) a)).toNatClampNeg = 2 := by
            rw [hD]
            apply dr_2
            unfold dr_td
            split <;> omega
          have eP : nI (dr_sm tg a) + 0 = nI (dr_sm tg (a + 1)) := by
            rw [Int32.add_zero, dr_sm_s]
            exact congrArg nI (by omega)
          exact br_f h3 (nm_r eP (nm_r eE J))
      refine dr_ftb hT hE hb ha hwa (fun h => hg h hwa) ?_
      by_cases h1 : a / 4 = r
      · have h2 : ¬ nI (a % 4) = nI q := by
          intro z
          have := (nI_eq (by omega) (by omega)).mp z
          omega
        exact br_t (congrArg nI h1) (br_f h2 K)
      · have h2 : ¬ nI (a / 4) = nI r := by
          intro z
          have := (nI_eq (by omega) (by omega)).mp z
          omega
        exact br_f h2 K
    · have h0 := dr_wT_0 hwa
      have h1 := dr_wT_e hwa
      have h2 : tg a = 0 := by
        by_cases z : 0 < tg a
        · have := htr a z
          omega
        · omega
      have J := ih n (a + 1) g (by omega) (by omega) (fun h3 h4 => by
        have h5 := dr_wT_p h4
        rw [show (a + 1) / 4 = a / 4 from by omega] at h5
        omega)
      rw [dr_sm_s, dr_sm_s, h0, h2, show (a + 1 + 3) / 4 = (a + 3) / 4 from by omega] at J
      exact J
theorem dr_xft {post : SX → Prop} {r q : Nat} (hT : dr_TC M gn tg a_tagAgain a_tagDepth) (hE : f_tagEntries = nI (dr_sm (dr_wT gn) M)) (hb : dr_sm (dr_wT gn) M ≤ 52) (ht : ∀ a, tg a ≤ 1) (htr : ∀ a, 0 < tg a → a % 4 < gn (a / 4)) (hM : M ≤ 48) (hq : q < 4) (hA : 4 * r + q < M) (hw : dr_wT gn (4 * r + q) = 1) (hp : post (f_isOpen, f_begun, f_ended, f_noteCount, f_tagEntries, f_tagCount, f_valueEntries, f_valueCount, f_openGroups, f_openValues, f_groupCount, nI (dr_sm (dr_wT gn) (4 * r + q)), nI (dr_sm tg (4 * r + q)), a_noteThere, a_notes, a_tagAgain, a_tagDepth, a_tags, a_valueAgain, a_valueDepth, a_values)) : wpX_findTag post (f_isOpen, f_begun, f_ended, f_noteCount, f_tagEntries, f_tagCount, f_valueEntries, f_valueCount, f_openGroups, f_openValues, f_groupCount, f_found, f_passed, a_noteThere, a_notes, a_tagAgain, a_tagDepth, a_tags, a_valueAgain, a_valueDepth, a_values) (nI r) (nI q) := by
  have h := dr_ft (f_found := 0) hT hE hb ht htr hM hq hA hw hp (4 * r + q) (4 * r + q + 1) 0 0 (by omega) (by omega) (fun h => absurd rfl h)
  rw [dr_m1] at h
  exact Exists.intro _ h
theorem dr_gl {post : Int32 → SX → Prop} {r : Nat} (hT : dr_TC M gn tg a_tagAgain a_tagDepth) (hE : f_tagEntries = nI (dr_sm (dr_wT gn) M)) (hb : dr_sm (dr_wT gn) M ≤ 52) (hr : 4 * (r + 1) ≤ M) (hg4 : gn r ≤ 4) (hp : post (nI (gn r)) (f_isOpen, f_begun, f_ended, f_noteCount, f_tagEntries, f_tagCount, f_valueEntries, f_valueCount, f_openGroups, f_openValues, f_groupCount, f_found, f_passed, a_noteThere, a_notes, a_tagAgain, a_tagDepth, a_tags, a_valueAgain, a_valueDepth, a_values)) : ∀ (d n g : Nat), g + d = gn r → 0 < g → d < n → wX_groups_39 post f_isOpen f_begun f_ended f_noteCount f_tagEntries f_tagCount f_valueEntries f_valueCount f_openGroups f_openValues f_groupCount f_found f_passed a_noteThere a_notes a_tagAgain a_tagDepth a_tags a_valueAgain a_valueDepth a_values n (nI g) (nI (dr_sm (dr_wT gn) (4 * r + g))) := by
  intro d
  induction d with
  | zero =>
    intro n g e hg hn
    obtain ⟨n, rfl⟩ : ∃ m, n = m + 1 := ⟨n - 1, by omega⟩
    have e' : g = gn r := by omega
    cases dr_next (dr_wT gn) (a := 4 * r + g) M (by omega) with
    | inl h =>
      have h1 : f_tagEntries ≤ nI (dr_sm (dr_wT gn) (4 * r + g)) := by
        rw [hE, h]
        exact nI_le (Nat.le_refl _) (by omega)
      rw [e'] at h1 ⊢
      exact br_t h1 hp
    | inr h =>
      obtain ⟨c, h1, h2, h3, h4⟩ := h
      have hs := dr_sm_al (dr_wT gn) h2
      have hc := dr_wT_1 gn c
      have hwc : dr_wT gn c = 1 := by omega
      have hc0 : c % 4 = 0 := by
        cases dr_wT_p hwc with
        | inl h => exact h
        | inr h =>
          by_cases z : c % 4 = 0
          · exact z
          · by_cases e3 : c / 4 = r
            · rw [e3] at h
              omega
            · have h5 : dr_wT gn (4 * (c / 4)) = 1 := dr_wT_z (by omega)
              have h6 := dr_sm_al (dr_wT gn) (a := 4 * (c / 4)) (b := c) (by omega)
              have h7 := dr_sm_le (dr_wT gn) (a := 4 * r + g) (b := 4 * (c / 4)) (by omega)
              omega
      have hA := (hT c h2 hwc).1
      rw [h4, dr_ag_0 hc0] at hA
      have n1 : ¬ f_tagEntries ≤ nI (dr_sm (dr_wT gn) (4 * r + g)) := by rw [hE]; exact nI_ge (by omega) (by omega)
      have hi : vp_in (nI (dr_sm (dr_wT gn) (4 * r + g))) 52 := vp_in_nI (by omega) (by omega)
      have e0 : a_tagAgain (nI (dr_sm (dr_wT gn) (4 * r + g))).toNatClampNeg ≤ 0 := by
        rw [nI_clamp (by omega), hA]
        decide
      rw [e'] at n1 hi e0 ⊢
      exact br_f n1 (And.intro hi (br_t e0 hp))
  | succ d ih =>
    intro n g e hg hn
    obtain ⟨n, rfl⟩ : ∃ m, n = m + 1 := ⟨n - 1, by omega⟩
    have ha : 4 * r + g < M := by omega
    have hw : dr_wT gn (4 * r + g) = 1 := by
      apply dr_wT_r
      rw [show (4 * r + g) / 4 = r from by omega]
      omega
    have hs := dr_sm_al (dr_wT gn) ha
    have hA := (hT _ ha hw).1
    rw [dr_ag_1 (by omega)] at hA
    have n1 : ¬ f_tagEntries ≤ nI (dr_sm (dr_wT gn) (4 * r + g)) := by rw [hE]; exact nI_ge (by omega) (by omega)
    have hi : vp_in (nI (dr_sm (dr_wT gn) (4 * r + g))) 52 := vp_in_nI (by omega) (by omega)
    have e0 : ¬ a_tagAgain (nI (dr_sm (dr_wT gn) (4 * r + g))).toNatClampNeg ≤ 0 := by
      rw [nI_clamp (by omega), hA]
      decide
    have eE : nI (dr_sm (dr_wT gn) (4 * r + g)) + 1 = nI (dr_sm (dr_wT gn) (4 * r + (g + 1))) := by
      rw [nI_1, ← Nat.add_assoc, dr_sm_s, hw]
    exact br_f n1 (And.intro hi (br_f e0 (nm_r (nI_1 g) (nm_r eE (ih n (g + 1) (by omega) (by omega) (by omega))))))
end
section
variable {E op : Nat} {gn vn tg nd : Nat → Nat}
theorem dr_xie_t {post : Int32 → Prop} (hG : dr_G E op gn vn tg nd) (hX : dr_X E op gn vn tg nd f_isOpen f_begun f_ended f_noteCount f_tagEntries f_tagCount f_valueEntries f_valueCount f_openGroups f_openValues f_groupCount a_noteThere a_tagAgain a_tagDepth a_valueAgain a_valueDepth) {r : Nat} (hr : r < E) (hp : post 1) : wpX_isEnded post (f_isOpen, f_begun, f_ended, f_noteCount, f_tagEntries, f_tagCount, f_valueEntries, f_valueCount, f_openGroups, f_openValues, f_groupCount, f_found, f_passed, a_noteThere, a_notes, a_tagAgain, a_tagDepth, a_tags, a_valueAgain, a_valueDepth, a_values) (nI r) := by
  have h1 := dr_G_E hG
  refine br_f (nI_pos (by omega)) (br_f ?_ hp)
  rw [hX.1.2.2.1]
  exact nI_ge hr (by omega)
theorem dr_xie_f {post : Int32 → Prop} (hX : dr_X E op gn vn tg nd f_isOpen f_begun f_ended f_noteCount f_tagEntries f_tagCount f_valueEntries f_valueCount f_openGroups f_openValues f_groupCount a_noteThere a_tagAgain a_tagDepth a_valueAgain a_valueDepth) {p0 : Int32} (h : p0 < 0 ∨ nI E ≤ p0) (hp : post 0) : wpX_isEnded post (f_isOpen, f_begun, f_ended, f_noteCount, f_tagEntries, f_tagCount, f_valueEntries, f_valueCount, f_openGroups, f_openValues, f_groupCount, f_found, f_passed, a_noteThere, a_notes, a_tagAgain, a_tagDepth, a_tags, a_valueAgain, a_valueDepth, a_values) p0 := by
  by_cases h0 : p0 < 0
  · exact br_t h0 hp
  · refine br_f h0 (br_t ?_ hp)
    rw [hX.1.2.2.1]
    cases h with
    | inl h => exact absurd h h0
    | inr h => exact h
theorem dr_xgr_t {post : Int32 → SX → Prop} (hG : dr_G E op gn vn tg nd) (hX : dr_X E op gn vn tg nd f_isOpen f_begun f_ended f_noteCount f_tagEntries f_tagCount f_valueEntries f_valueCount f_openGroups f_openValues f_groupCount a_noteThere a_tagAgain a_tagDepth a_valueAgain a_valueDepth) {r : Nat} (hr : r < E) (hp : ∀ fo pa, post (nI (gn r)) (f_isOpen, f_begun, f_ended, f_noteCount, f_tagEntries, f_tagCount, f_valueEntries, f_valueCount, f_openGroups, f_openValues, f_groupCount, fo, pa, a_noteThere, a_notes, a_tagAgain, a_tagDepth, a_tags, a_valueAgain, a_valueDepth, a_values)) : wpX_groups post (f_isOpen, f_begun, f_ended, f_noteCount, f_tagEntries, f_tagCount, f_valueEntries, f_valueCount, f_openGroups, f_openValues, f_groupCount, f_found, f_passed, a_noteThere, a_notes, a_tagAgain, a_tagDepth, a_tags, a_valueAgain, a_valueDepth, a_values) (nI r) := by
  have hE := dr_G_E hG
  have hT := hX.2.2.2.2.2.1
  have hTE := hX.2.1.1
  have hb := dr_G_T hG
  have hM : 4 * (r + 1) ≤ dr_M E gn := by
    unfold dr_M
    omega
  have hw : dr_wT gn (4 * r + 0) = 1 := dr_wT_z (by omega)
  have hs := dr_sm_al (dr_wT gn) (a := 4 * r + 0) (b := dr_M E gn) (by omega)
  have hD := (hT (4 * r + 0) (by omega) hw).2
  have hi : vp_in (nI (dr_sm (dr_wT gn) (4 * r + 0))) 52 := vp_in_nI (by omega) (by omega)
  unfold wpX_groups
  refine dr_xie_t hG hX hr (br_f (by decide) ?_)
  refine dr_xft (q := 0) hT hTE hb (dr_G_t hG) (dr_G_tr hG) (dr_M_48 hG) (by omega) (by omega) hw ?_
  refine And.intro hi ?_
  by_cases h0 : gn r = 0
  · have e : a_tagDepth (nI (dr_sm (dr_wT gn) (4 * r + 0))).toNatClampNeg = 0 := by
      rw [nI_clamp (by omega), hD]
      unfold dr_td
      rw [if_neg (by rw [show (4 * r + 0) / 4 = r from by omega]; omega)]
      rfl
    refine br_t e ?_
    have hp' := hp (nI (dr_sm (dr_wT gn) (4 * r + 0))) (nI (dr_sm tg (4 * r + 0)))
    rw [h0] at hp'
    exact hp'
  · have e : ¬ a_tagDepth (nI (dr_sm (dr_wT gn) (4 * r + 0))).toNatClampNeg = 0 := by
      rw [nI_clamp (by omega), hD]
      unfold dr_td
      rw [if_pos (by rw [show (4 * r + 0) / 4 = r from by omega]; omega)]
      have := dr_G_t hG (4 * r + 0)
      exact nI_ne0 (by omega) (by omega)
    have eE : nI (dr_sm (dr_wT gn) (4 * r + 0)) + 1 = nI (dr_sm (dr_wT gn) (4 * r + 1)) := by
      rw [nI_1, show 4 * r + 1 = 4 * r + 0 + 1 from rfl, dr_sm_s (dr_wT gn) (4 * r + 0), hw]
    refine br_f e (nm_r eE (Exists.intro (gn r) ?_))
    exact dr_gl hT hTE hb hM (dr_G_g hG r) (hp _ _) (gn r - 1) (gn r) 1 (by omega) (by omega) (by omega)
theorem dr_xgr_f {post : Int32 → SX → Prop} (hX : dr_X E op gn vn tg nd f_isOpen f_begun f_ended f_noteCount f_tagEntries f_tagCount f_valueEntries f_valueCount f_openGroups f_openValues f_groupCount a_noteThere a_tagAgain a_tagDepth a_valueAgain a_valueDepth) {p0 : Int32} (h : p0 < 0 ∨ nI E ≤ p0) (hp : post (-1) (f_isOpen, f_begun, f_ended, f_noteCount, f_tagEntries, f_tagCount, f_valueEntries, f_valueCount, f_openGroups, f_openValues, f_groupCount, f_found, f_passed, a_noteThere, a_notes, a_tagAgain, a_tagDepth, a_tags, a_valueAgain, a_valueDepth, a_values)) : wpX_groups post (f_isOpen, f_begun, f_ended, f_noteCount, f_tagEntries, f_tagCount, f_valueEntries, f_valueCount, f_openGroups, f_openValues, f_groupCount, f_found, f_passed, a_noteThere, a_notes, a_tagAgain, a_tagDepth, a_tags, a_valueAgain, a_valueDepth, a_values) p0 := by
  unfold wpX_groups
  exact dr_xie_f hX h (br_t rfl hp)
/-- p0, p1 name a group of an ended record -/
def dr_ok (E : Nat) (gn : Nat → Nat) (p0 p1 : Int32) : Prop := ∃ r q : Nat, r < E ∧ q < gn r ∧ p0 = nI r ∧ p1 = nI q
theorem dr_xig_t {post : Int32 → SX → Prop} (hG : dr_G E op gn vn tg nd) (hX : dr_X E op gn vn tg nd f_isOpen f_begun f_ended f_noteCount f_tagEntries f_tagCount f_valueEntries f_valueCount f_openGroups f_openValues f_groupCount a_noteThere a_tagAgain a_tagDepth a_valueAgain a_valueDepth) {r q : Nat} (hr : r < E) (hq : q < gn r) (hp : ∀ fo pa, post 1 (f_isOpen, f_begun, f_ended, f_noteCount, f_tagEntries, f_tagCount, f_valueEntries, f_valueCount, f_openGroups, f_openValues, f_groupCount, fo, pa, a_noteThere, a_notes, a_tagAgain, a_tagDepth, a_tags, a_valueAgain, a_valueDepth, a_values)) : wpX_isGroup post (f_isOpen, f_begun, f_ended, f_noteCount, f_tagEntries, f_tagCount, f_valueEntries, f_valueCount, f_openGroups, f_openValues, f_groupCount, f_found, f_passed, a_noteThere, a_notes, a_tagAgain, a_tagDepth, a_tags, a_valueAgain, a_valueDepth, a_values) (nI r) (nI q) := by
  have hg := dr_G_g hG r
  unfold wpX_isGroup
  refine dr_xie_t hG hX hr (br_f (by decide) (br_f (nI_pos (by omega)) ?_))
  exact dr_xgr_t hG hX hr (fun fo pa => br_f (nI_ge hq (by omega)) (hp fo pa))
theorem dr_xig_f {post : Int32 → SX → Prop} (hG : dr_G E op gn vn tg nd) (hX : dr_X E op gn vn tg nd f_isOpen f_begun f_ended f_noteCount f_tagEntries f_tagCount f_valueEntries f_valueCount f_openGroups f_openValues f_groupCount a_noteThere a_tagAgain a_tagDepth a_valueAgain a_valueDepth) {p0 p1 : Int32} (h : ¬ dr_ok E gn p0 p1) (hp : ∀ fo pa, post 0 (f_isOpen, f_begun, f_ended, f_noteCount, f_tagEntries, f_tagCount, f_valueEntries, f_valueCount, f_openGroups, f_openValues, f_groupCount, fo, pa, a_noteThere, a_notes, a_tagAgain, a_tagDepth, a_tags, a_valueAgain, a_valueDepth, a_values)) : wpX_isGroup post (f_isOpen, f_begun, f_ended, f_noteCount, f_tagEntries, f_tagCount, f_valueEntries, f_valueCount, f_openGroups, f_openValues, f_groupCount, f_found, f_passed, a_noteThere, a_notes, a_tagAgain, a_tagDepth, a_tags, a_valueAgain, a_valueDepth, a_values) p0 p1 := by
  have hE := dr_G_E hG
  unfold wpX_isGroup
  by_cases h1 : p0 < 0 ∨ nI E ≤ p0
  · exact dr_xie_f hX h1 (br_t rfl (hp _ _))
  · obtain ⟨r, hr, rfl⟩ : ∃ r : Nat, r < E ∧ p0 = nI r := by
      cases pk_ix p0 (n := E) (by omega) with
      | inl h2 => exact absurd (Or.inl h2) h1
      | inr h2 => cases h2 with
        | inl h3 => exact absurd (Or.inr h3) h1
        | inr h3 => exact h3
    have hg := dr_G_g hG r
    refine dr_xie_t hG hX hr (br_f (by decide) ?_)
    by_cases h2 : p1 < 0
    · exact br_t h2 (hp _ _)
    · obtain ⟨q, hq, rfl⟩ := nI_of h2
      refine br_f h2 ?_
      refine dr_xgr_t hG hX hr (fun fo pa => br_t ?_ (hp fo pa))
      refine nI_le ?_ hq
      by_cases h3 : gn r ≤ q
      · exact h3
      · exact absurd ⟨r, q, hr, by omega, rfl, rfl⟩ h
end
end
end
section
/-! the component: findValue, values, valueAt -/
theorem dr_wV_v {gn vn : Nat → Nat} {a : Nat} (h : 0 < vn a) : dr_wV gn vn a = vn a := if_pos h
theorem dr_wV_0 {gn vn : Nat → Nat} {a : Nat} (h : ¬ 0 < vn a) : dr_wV gn vn a = dr_wT gn a := if_neg h
theorem dr_wV_w {gn vn : Nat → Nat} (hv : ∀ a, 0 < vn a → a % 4 < gn (a / 4)) {a : Nat} : 0 < dr_wV gn vn a ↔ dr_wT gn a = 1 := by
  have h1 := dr_wT_1 gn a
  by_cases h : 0 < vn a
  · rw [dr_wV_v h, dr_wT_r (hv a h)]
    omega
  · rw [dr_wV_0 h]
    omega
theorem dr_va_0 (a : Nat) : dr_va a 0 = dr_ag a := rfl
theorem dr_va_1 {a j : Nat} (h : 0 < j) : nI (dr_va a j) = 2 := by
  unfold dr_va
  rw [if_neg (by omega)]
  rfl
theorem dr_vd_2 {gn vn : Nat → Nat} {a : Nat} (h : 0 < vn a) : nI (dr_vd gn vn a) = 2 := by
  unfold dr_vd
  rw [if_pos h]
  rfl
theorem dr_vd_0 {gn vn : Nat → Nat} {a : Nat} (h : ¬ 0 < vn a) : dr_vd gn vn a < 2 := by
  unfold dr_vd dr_rl
  rw [if_neg h]
  split <;> omega
theorem dr_ag_2 (a : Nat) : dr_ag a < 2 := by
  unfold dr_ag
  split <;> omega
section
variable {f_isOpen f_begun f_ended f_noteCount f_tagEntries f_tagCount f_valueEntries f_valueCount f_openGroups f_openValues f_groupCount f_found f_passed : Int32} {a_noteThere a_notes a_tagAgain a_tagDepth a_tags a_valueAgain a_valueDepth a_values : Nat → Int32}
section
variable {gn vn : Nat → Nat} {M : Nat}
theorem dr_fvb0 {post : SX → Prop} {x1 x2 g : Int32} {a p n : Nat} (hV : dr_VC M gn vn a_valueAgain a_valueDepth) (hE : f_valueEntries = nI (dr_sm (dr_wV gn vn) M)) (hb : dr_sm (dr_wV gn vn) M ≤ 112) (ha : a < M) (hw : 0 < dr_wV gn vn a) (hg : ¬ a % 4 = 0 → g = nI (a % 4 - 1)) (K : wX_findValue_79 post (wX_findValue_18 post x1 x2 f_isOpen f_begun f_ended f_noteCount f_tagEntries f_tagCount f_valueEntries f_valueCount f_openGroups f_openValues f_groupCount f_found a_noteThere a_notes a_tagAgain a_tagDepth a_tags a_valueAgain a_valueDepth a_values n) x1 x2 (nI (a / 4)) (nI (dr_sm (dr_wV gn vn) a)) (nI (a % 4)) f_isOpen f_begun f_ended f_noteCount f_tagEntries f_tagCount f_valueEntries f_valueCount f_openGroups f_openValues f_groupCount f_found (nI p) a_noteThere a_notes a_tagAgain a_tagDepth a_tags a_valueAgain a_valueDepth a_values) : wX_findValue_18 post x1 x2 f_isOpen f_begun f_ended f_noteCount f_tagEntries f_tagCount f_valueEntries f_valueCount f_openGroups f_openValues f_groupCount f_found a_noteThere a_notes a_tagAgain a_tagDepth a_tags a_valueAgain a_valueDepth a_values (n + 1) (nI ((a + 3) / 4) - 1) g (nI (dr_sm (dr_wV gn vn) a)) (nI p) := by
  have hs := dr_sm_al (dr_wV gn vn) ha
  have h1 : ¬ f_valueEntries ≤ nI (dr_sm (dr_wV gn vn) a) := by rw [hE]; exact nI_ge (by omega) (by omega)
  have hi : vp_in (nI (dr_sm (dr_wV gn vn) a)) 112 := vp_in_nI (by omega) (by omega)
  have hA : a_valueAgain (nI (dr_sm (dr_wV gn vn) a)).toNatClampNeg = nI (dr_ag a) := by rw [nI_clamp (by omega)]; exact (hV a ha 0 hw).1
  by_cases h0 : a % 4 = 0
  · have e : a_valueAgain (nI (dr_sm (dr_wV gn vn) a)).toNatClampNeg = 0 := by rw [hA]; exact dr_ag_0 h0
    rw [h0, nI_0] at K
    exact br_f h1 (And.intro hi (br_t e (nm_r (dr_r1 h0) (And.intro hi (br_t e K)))))
  · have e1 : a_valueAgain (nI (dr_sm (dr_wV gn vn) a)).toNatClampNeg = 1 := by rw [hA]; exact dr_ag_1 h0
    have e : ¬ a_valueAgain (nI (dr_sm (dr_wV gn vn) a)).toNatClampNeg = 0 := by rw [e1]; decide
    have eg : g + 1 = nI (a % 4) := by
      rw [hg h0, nI_1]
      exact congrArg nI (by omega)
    rw [← eg] at K
    exact br_f h1 (And.intro hi (br_f e (nm_r (dr_r0 h0) (And.intro hi (br_f e (And.intro hi (br_t e1 K)))))))
theorem dr_fvb1 {post : SX → Prop} {x1 x2 : Int32} {a j p n : Nat} (hV : dr_VC M gn vn a_valueAgain a_valueDepth) (hE : f_valueEntries = nI (dr_sm (dr_wV gn vn) M)) (hb : dr_sm (dr_wV gn vn) M ≤ 112) (ha : a < M) (hj : 0 < j) (hw : j < dr_wV gn vn a) (K : wX_findValue_79 post (wX_findValue_18 post x1 x2 f_isOpen f_begun f_ended f_noteCount f_tagEntries f_tagCount f_valueEntries f_valueCount f_openGroups f_openValues f_groupCount f_found a_noteThere a_notes a_tagAgain a_tagDepth a_tags a_valueAgain a_valueDepth a_values n) x1 x2 (nI (a / 4)) (nI (dr_sm (dr_wV gn vn) a + j)) (nI (a % 4)) f_isOpen f_begun f_ended f_noteCount f_tagEntries f_tagCount f_valueEntries f_valueCount f_openGroups f_openValues f_groupCount f_found (nI p) a_noteThere a_notes a_tagAgain a_tagDepth a_tags a_valueAgain a_valueDepth a_values) : wX_findValue_18 post x1 x2 f_isOpen f_begun f_ended f_noteCount f_tagEntries f_tagCount f_valueEntries f_valueCount f_openGroups f_openValues f_groupCount f_found a_noteThere a_notes a_tagAgain a_tagDepth a_tags a_valueAgain a_valueDepth a_values (n + 1) (nI (a / 4)) (nI (a % 4)) (nI (dr_sm (dr_wV gn vn) a + j)) (nI p) := by
  have hs := dr_sm_al (dr_wV gn vn) ha
  have h1 : ¬ f_valueEntries ≤ nI (dr_sm (dr_wV gn vn) a + j) := by rw [hE]; exact nI_ge (by omega) (by omega)
  have hi : vp_in (nI (dr_sm (dr_wV gn vn) a + j)) 112 := vp_in_nI (by omega) (by omega)
  have hA : a_valueAgain (nI (dr_sm (dr_wV gn vn) a + j)).toNatClampNeg = 2 := by rw [nI_clamp (by omega), (hV a ha j hw).1]; exact dr_va_1 hj
  have e0 : ¬ a_valueAgain (nI (dr_sm (dr_wV gn vn) a + j)).toNatClampNeg = 0 := by rw [hA]; decide
  have e1 : ¬ a_valueAgain (nI (dr_sm (dr_wV gn vn) a + j)).toNatClampNeg = 1 := by rw [hA]; decide
  exact br_f h1 (And.intro hi (br_f e0 (nm_r (Int32.add_zero _) (And.intro hi (br_f e0 (And.intro hi (br_f e1 K)))))))
/-- an entry that isn't the one sought -/
theorem dr_fvk {post : SX → Prop} {J : Int32 → Int32 → Int32 → Int32 → Prop} {a j p r q : Nat} (hV : dr_VC M gn vn a_valueAgain a_valueDepth) (hb : dr_sm (dr_wV gn vn) M ≤ 112) (hM : M ≤ 48) (ha : a < M) (hw : j < dr_wV gn vn a) (hq : q < 4) (hr : 4 * r + q < M) (hne : a ≠ 4 * r + q) (K : J (nI (a / 4)) (nI (a % 4)) (nI (dr_sm (dr_wV gn vn) a + (j + 1))) (nI (p + (if 0 < vn a then 1 else 0)))) : wX_findValue_79 post J (nI r) (nI q) (nI (a / 4)) (nI (dr_sm (dr_wV gn vn) a + j)) (nI (a % 4)) f_isOpen f_begun f_ended f_noteCount f_tagEntries f_tagCount f_valueEntries f_valueCount f_openGroups f_openValues f_groupCount f_found (nI p) a_noteThere a_notes a_tagAgain a_tagDepth a_tags a_valueAgain a_valueDepth a_values := by
  have hs := dr_sm_al (dr_wV gn vn) ha
  have hi : vp_in (nI (dr_sm (dr_wV gn vn) a + j)) 112 := vp_in_nI (by omega) (by omega)
  have hD : a_valueDepth (nI (dr_sm (dr_wV gn vn) a + j)).toNatClampNeg = nI (dr_vd gn vn a) := by rw [nI_clamp (by omega)]; exact (hV a ha j hw).2
  have eE : nI (dr_sm (dr_wV gn vn) a + j) + 1 = nI (dr_sm (dr_wV gn vn) a + (j + 1)) := nI_1 _
  have K2 : wX_findValue_99 post J (nI r) (nI q) (nI (a / 4)) (nI (a % 4)) (nI (dr_sm (dr_wV gn vn) a + j)) f_isOpen f_begun f_ended f_noteCount f_tagEntries f_tagCount f_valueEntries f_valueCount f_openGroups f_openValues f_groupCount f_found (nI p) a_noteThere a_notes a_tagAgain a_tagDepth a_tags a_valueAgain a_valueDepth a_values := by
    refine And.intro hi ?_
    by_cases h : 0 < vn a
    · rw [if_pos h] at K
      rw [dr_vd_2 h] at hD
      exact br_t hD (nm_r (nI_1 p) (nm_r eE K))
    · rw [if_neg h] at K
      have hD2 : ¬ a_valueDepth (nI (dr_sm (dr_wV gn vn) a + j)).toNatClampNeg = 2 := by rw [hD]; exact dr_2 (dr_vd_0 h)
      exact br_f hD2 (nm_r (Int32.add_zero _) (nm_r eE K))
  by_cases h1 : a / 4 = r
  · have h2 : ¬ nI (a % 4) = nI q := by
      intro z
      have := (nI_eq (by omega) (by omega)).mp z
      omega
    exact br_t (congrArg nI h1) (br_f h2 K2)
  · have h2 : ¬ nI (a / 4) = nI r := by
      intro z
      have := (nI_eq (by omega) (by omega)).mp z
      omega
    exact br_f h2 K2
/-- the rest of a slot -/
theorem dr_fvi {post : SX → Prop} {a r q B : Nat} (hV : dr_VC M gn vn a_valueAgain a_valueDepth) (hE : f_valueEntries = nI (dr_sm (dr_wV gn vn) M)) (hb : dr_sm (dr_wV gn vn) M ≤ 112) (hM : M ≤ 48) (ha : a < M) (hq : q < 4) (hr : 4 * r + q < M) (hne : a ≠ 4 * r + q) (hB : dr_sm (dr_wV gn vn) (a + 1) ≤ B) (K : ∀ n, B - dr_sm (dr_wV gn vn) (a + 1) < n → wX_findValue_18 post (nI r) (nI q) f_isOpen f_begun f_ended f_noteCount f_tagEntries f_tagCount f_valueEntries f_valueCount f_openGroups f_openValues f_groupCount f_found a_noteThere a_notes a_tagAgain a_tagDepth a_tags a_valueAgain a_valueDepth a_values n (nI (a / 4)) (nI (a % 4)) (nI (dr_sm (dr_wV gn vn) (a + 1))) (nI (dr_sm vn (a + 1)))) : ∀ d j n, j + d = dr_wV gn vn a → 0 < j → B - (dr_sm (dr_wV gn vn) a + j) < n → wX_findValue_18 post (nI r) (nI q) f_isOpen f_begun f_ended f_noteCount f_tagEntries f_tagCount f_valueEntries f_valueCount f_openGroups f_openValues f_groupCount f_found a_noteThere a_notes a_tagAgain a_tagDepth a_tags a_valueAgain a_valueDepth a_values n (nI (a / 4)) (nI (a % 4)) (nI (dr_sm (dr_wV gn vn) a + j)) (nI (dr_sm vn a + (if 0 < vn a then j else 0))) := by
  intro d
  induction d with
  | zero =>
    intro j n e hj hn
    have e' : j = dr_wV gn vn a := by omega
    have hK := K n (by rw [dr_sm_s]; omega)
    rw [dr_sm_s, dr_sm_s] at hK
    rw [e']
    have e2 : (if 0 < vn a then dr_wV gn vn a else 0) = vn a := by
      by_cases h : 0 < vn a
      · rw [if_pos h, dr_wV_v h]
      · rw [if_neg h]
        omega
    rw [e2]
    exact hK
  | succ d ih =>
    intro j n e hj hn
    rw [dr_sm_s] at hB
    have hv : 0 < vn a := by
      by_cases h : 0 < vn a
      · exact h
      · have h1 := dr_wT_1 gn a
        rw [dr_wV_0 h] at e
        omega
    obtain ⟨n, rfl⟩ : ∃ m, n = m + 1 := ⟨n - 1, by omega⟩
    have J := ih (j + 1) n (by omega) (by omega) (by omega)
    rw [if_pos hv] at J ⊢
    refine dr_fvb1 hV hE hb ha hj (by omega) (dr_fvk hV hb hM ha (by omega) hq hr hne ?_)
    rw [if_pos hv]
    exact J
theorem dr_fv {post : SX → Prop} {r q : Nat} (hV : dr_VC M gn vn a_valueAgain a_valueDepth) (hE : f_valueEntries = nI (dr_sm (dr_wV gn vn) M)) (hb : dr_sm (dr_wV gn vn) M ≤ 112) (hv : ∀ a, 0 < vn a → a % 4 < gn (a / 4)) (hM : M ≤ 48) (hq : q < 4) (hA : 4 * r + q < M) (hw : dr_wT gn (4 * r + q) = 1) (hp : post (f_isOpen, f_begun, f_ended, f_noteCount, f_tagEntries, f_tagCount, f_valueEntries, f_valueCount, f_openGroups, f_openValues, f_groupCount, nI (dr_sm (dr_wV gn vn) (4 * r + q)), nI (dr_sm vn (4 * r + q)), a_noteThere, a_notes, a_tagAgain, a_tagDepth, a_tags, a_valueAgain, a_valueDepth, a_values)) : ∀ (d a n : Nat) (g : Int32), a + d = 4 * r + q → dr_sm (dr_wV gn vn) (4 * r + q) - dr_sm (dr_wV gn vn) a < n → (¬ a % 4 = 0 → dr_wT gn a = 1 → g = nI (a % 4 - 1)) → wX_findValue_18 post (nI r) (nI q) f_isOpen f_begun f_ended f_noteCount f_tagEntries f_tagCount f_valueEntries f_valueCount f_openGroups f_openValues f_groupCount f_found a_noteThere a_notes a_tagAgain a_tagDepth a_tags a_valueAgain a_valueDepth a_values n (nI ((a + 3) / 4) - 1) g (nI (dr_sm (dr_wV gn vn) a)) (nI (dr_sm vn a)) := by
  intro d
  induction d with
  | zero =>
    intro a n g e hn hg
    have e' : a = 4 * r + q := by omega
    subst e'
    obtain ⟨n, rfl⟩ : ∃ m, n = m + 1 := ⟨n - 1, by omega⟩
    have e1 : nI ((4 * r + q) / 4) = nI r := congrArg nI (by omega)
    have e2 : nI ((4 * r + q) % 4) = nI q := congrArg nI (by omega)
    exact dr_fvb0 hV hE hb hA ((dr_wV_w hv).mpr hw) (fun h => hg h hw) (br_t e1 (br_t e2 hp))
  | succ d ih =>
    intro a n g e hn hg
    by_cases hwa : dr_wT gn a = 1
    · have h0 : 0 < dr_wV gn vn a := (dr_wV_w hv).mpr hwa
      obtain ⟨n, rfl⟩ : ∃ m, n = m + 1 := ⟨n - 1, by omega⟩
      have ha : a < M := by omega
      have hs := dr_sm_al (dr_wV gn vn) (a := a) (b := 4 * r + q) (by omega)
      have J : ∀ n, dr_sm (dr_wV gn vn) (4 * r + q) - dr_sm (dr_wV gn vn) (a + 1) < n → wX_findValue_18 post (nI r) (nI q) f_isOpen f_begun f_ended f_noteCount f_tagEntries f_tagCount f_valueEntries f_valueCount f_openGroups f_openValues f_groupCount f_found a_noteThere a_notes a_tagAgain a_tagDepth a_tags a_valueAgain a_valueDepth a_values n (nI (a / 4)) (nI (a % 4)) (nI (dr_sm (dr_wV gn vn) (a + 1))) (nI (dr_sm vn (a + 1))) := by
        intro n hn
        have J := ih (a + 1) n (nI (a % 4)) (by omega) hn (fun h3 _ => congrArg nI (by omega))
        rw [dr_r2] at J
        exact J
      have J2 := dr_fvi (B := dr_sm (dr_wV gn vn) (4 * r + q)) hV hE hb hM ha hq hA (by omega) (dr_sm_le _ (by omega)) J (dr_wV gn vn a - 1) 1 n (by omega) (by omega) (by omega)
      exact dr_fvb0 hV hE hb ha h0 (fun h => hg h hwa) (dr_fvk (j := 0) hV hb hM ha h0 hq hA (by omega) J2)
    · have h1 := dr_wT_e hwa
      have h0 : dr_wV gn vn a = 0 := by
        have := dr_wV_w hv (a := a)
        omega
      have h2 : vn a = 0 := by
        by_cases z : 0 < vn a
        · have := hv a z
          omega
        · omega
      have J := ih (a + 1) n g (by omega) (by rw [dr_sm_s, h0]; exact hn) (fun h3 h4 => by
        have h5 := dr_wT_p h4
        rw [show (a + 1) / 4 = a / 4 from by omega] at h5
        omega)
      rw [dr_sm_s, dr_sm_s, h0, h2, show (a + 1 + 3) / 4 = (a + 3) / 4 from by omega] at J
      exact J
theorem dr_xfv {post : SX → Prop} {r q : Nat} (hV : dr_VC M gn vn a_valueAgain a_valueDepth) (hE : f_valueEntries = nI (dr_sm (dr_wV gn vn) M)) (hb : dr_sm (dr_wV gn vn) M ≤ 112) (hv : ∀ a, 0 < vn a → a % 4 < gn (a / 4)) (hM : M ≤ 48) (hq : q < 4) (hA : 4 * r + q < M) (hw : dr_wT gn (4 * r + q) = 1) (hp : post (f_isOpen, f_begun, f_ended, f_noteCount, f_tagEntries, f_tagCount, f_valueEntries, f_valueCount, f_openGroups, f_openValues, f_groupCount, nI (dr_sm (dr_wV gn vn) (4 * r + q)), nI (dr_sm vn (4 * r + q)), a_noteThere, a_notes, a_tagAgain, a_tagDepth, a_tags, a_valueAgain, a_valueDepth, a_values)) : wpX_findValue post (f_isOpen, f_begun, f_ended, f_noteCount, f_tagEntries, f_tagCount, f_valueEntries, f_valueCount, f_openGroups, f_openValues, f_groupCount, f_found, f_passed, a_noteThere, a_notes, a_tagAgain, a_tagDepth, a_tags, a_valueAgain, a_valueDepth, a_values) (nI r) (nI q) := by
  have h := dr_fv (f_found := 0) hV hE hb hv hM hq hA hw hp (4 * r + q) 0 (dr_sm (dr_wV gn vn) (4 * r + q) + 1) 0 (by omega) (by omega) (fun h => absurd rfl h)
  rw [dr_m1] at h
  exact Exists.intro _ h
theorem dr_vl {post : Int32 → SX → Prop} {a : Nat} (hV : dr_VC M gn vn a_valueAgain a_valueDepth) (hE : f_valueEntries = nI (dr_sm (dr_wV gn vn) M)) (hb : dr_sm (dr_wV gn vn) M ≤ 112) (ha : a < M) (hp : post (nI (vn a)) (f_isOpen, f_begun, f_ended, f_noteCount, f_tagEntries, f_tagCount, f_valueEntries, f_valueCount, f_openGroups, f_openValues, f_groupCount, f_found, f_passed, a_noteThere, a_notes, a_tagAgain, a_tagDepth, a_tags, a_valueAgain, a_valueDepth, a_values)) : ∀ (d n j : Nat), j + d = vn a → 0 < j → d < n → wX_values_42 post f_isOpen f_begun f_ended f_noteCount f_tagEntries f_tagCount f_valueEntries f_valueCount f_openGroups f_openValues f_groupCount f_found f_passed a_noteThere a_notes a_tagAgain a_tagDepth a_tags a_valueAgain a_valueDepth a_values n (nI j) (nI (dr_sm (dr_wV gn vn) a + j)) := by
  intro d
  induction d with
  | zero =>
    intro n j e hj hn
    obtain ⟨n, rfl⟩ : ∃ m, n = m + 1 := ⟨n - 1, by omega⟩
    have e' : j = vn a := by omega
    have e2 : dr_sm (dr_wV gn vn) a + j = dr_sm (dr_wV gn vn) (a + 1) := by rw [dr_sm_s, dr_wV_v (by omega), e']
    rw [e2]
    cases dr_next (dr_wV gn vn) (a := a + 1) M (by omega) with
    | inl h =>
      have h1 : f_valueEntries ≤ nI (dr_sm (dr_wV gn vn) (a + 1)) := by
        rw [hE, h]
        exact nI_le (Nat.le_refl _) (by omega)
      rw [e']
      exact br_t h1 hp
    | inr h =>
      obtain ⟨c, h1, h2, h3, h4⟩ := h
      have hs := dr_sm_al (dr_wV gn vn) h2
      have hA : a_valueAgain (dr_sm (dr_wV gn vn) c) = nI (dr_ag c) := (hV c h2 0 h3).1
      rw [h4] at hA
      have n1 : ¬ f_valueEntries ≤ nI (dr_sm (dr_wV gn vn) (a + 1)) := by rw [hE]; exact nI_ge (by omega) (by omega)
      have hi : vp_in (nI (dr_sm (dr_wV gn vn) (a + 1))) 112 := vp_in_nI (by omega) (by omega)
      have e0 : ¬ a_valueAgain (nI (dr_sm (dr_wV gn vn) (a + 1))).toNatClampNeg = 2 := by
        rw [nI_clamp (by omega), hA]
        exact dr_2 (dr_ag_2 c)
      rw [e']
      exact br_f n1 (And.intro hi (br_f e0 hp))
  | succ d ih =>
    intro n j e hj hn
    obtain ⟨n, rfl⟩ : ∃ m, n = m + 1 := ⟨n - 1, by omega⟩
    have hw : j < dr_wV gn vn a := by rw [dr_wV_v (by omega)]; omega
    have hs := dr_sm_al (dr_wV gn vn) ha
    have n1 : ¬ f_valueEntries ≤ nI (dr_sm (dr_wV gn vn) a + j) := by rw [hE]; exact nI_ge (by omega) (by omega)
    have hi : vp_in (nI (dr_sm (dr_wV gn vn) a + j)) 112 := vp_in_nI (by omega) (by omega)
    have e0 : a_valueAgain (nI (dr_sm (dr_wV gn vn) a + j)).toNatClampNeg = 2 := by
      rw [nI_clamp (by omega), (hV a ha j hw).1]
      exact dr_va_1 hj
    exact br_f n1 (And.intro hi (br_t e0 (nm_r (nI_1 j) (nm_r (nI_1 _) (ih n (j + 1) (by omega) (by omega) (by omega))))))
end
section
variable {E op : Nat} {gn vn tg nd : Nat → Nat}
theorem dr_xfv_t {post : SX → Prop} (hG : dr_G E op gn vn tg nd) (hX : dr_X E op gn vn tg nd f_isOpen f_begun f_ended f_noteCount f_tagEntries f_tagCount f_valueEntries f_valueCount f_openGroups f_openValues f_groupCount a_noteThere a_tagAgain a_tagDepth a_valueAgain a_valueDepth) {r q : Nat} (hr : r < E) (hq : q < gn r) (hp : post (f_isOpen, f_begun, f_ended, f_noteCount, f_tagEntries, f_tagCount, f_valueEntries, f_valueCount, f_openGroups, f_openValues, f_groupCount, nI (dr_sm (dr_wV gn vn) (4 * r + q)), nI (dr_sm vn (4 * r + q)), a_noteThere, a_notes, a_tagAgain, a_tagDepth, a_tags, a_valueAgain, a_valueDepth, a_values)) : wpX_findValue post (f_isOpen, f_begun, f_ended, f_noteCount, f_tagEntries, f_tagCount, f_valueEntries, f_valueCount, f_openGroups, f_openValues, f_groupCount, f_found, f_passed, a_noteThere, a_notes, a_tagAgain, a_tagDepth, a_tags, a_valueAgain, a_valueDepth, a_values) (nI r) (nI q) := by
  have hg := dr_G_g hG r
  have h1 : 4 * E ≤ dr_Mv E gn vn := dr_Mv_ge
  exact dr_xfv hX.2.2.2.2.2.2 hX.2.2.1.1 (dr_Mv_V hG) (dr_G_vr hG) (Nat.le_trans dr_Mv_le (dr_M_48 hG)) (by omega) (by omega) (dr_wT_r (by rw [show (4 * r + q) / 4 = r from by omega]; omega)) hp
theorem dr_xvs_t {post : Int32 → SX → Prop} (hG : dr_G E op gn vn tg nd) (hX : dr_X E op gn vn tg nd f_isOpen f_begun f_ended f_noteCount f_tagEntries f_tagCount f_valueEntries f_valueCount f_openGroups f_openValues f_groupCount a_noteThere a_tagAgain a_tagDepth a_valueAgain a_valueDepth) {r q : Nat} (hr : r < E) (hq : q < gn r) (hp : ∀ fo pa, post (nI (vn (4 * r + q))) (f_isOpen, f_begun, f_ended, f_noteCount, f_tagEntries, f_tagCount, f_valueEntries, f_valueCount, f_openGroups, f_openValues, f_groupCount, fo, pa, a_noteThere, a_notes, a_tagAgain, a_tagDepth, a_tags, a_valueAgain, a_valueDepth, a_values)) : wpX_values post (f_isOpen, f_begun, f_ended, f_noteCount, f_tagEntries, f_tagCount, f_valueEntries, f_valueCount, f_openGroups, f_openValues, f_groupCount, f_found, f_passed, a_noteThere, a_notes, a_tagAgain, a_tagDepth, a_tags, a_valueAgain, a_valueDepth, a_values) (nI r) (nI q) := by
  have hg := dr_G_g hG r
  have hM : 4 * r + q < dr_Mv E gn vn := by
    have : 4 * E ≤ dr_Mv E gn vn := dr_Mv_ge
    omega
  have hb := dr_Mv_V hG
  have hV := hX.2.2.2.2.2.2
  have hw : 0 < dr_wV gn vn (4 * r + q) := (dr_wV_w (dr_G_vr hG)).mpr (dr_wT_r (by rw [show (4 * r + q) / 4 = r from by omega]; omega))
  have hs := dr_sm_al (dr_wV gn vn) hM
  have hD : a_valueDepth (dr_sm (dr_wV gn vn) (4 * r + q)) = nI (dr_vd gn vn (4 * r + q)) := (hV _ hM 0 hw).2
  have hi : vp_in (nI (dr_sm (dr_wV gn vn) (4 * r + q))) 112 := vp_in_nI (by omega) (by omega)
  unfold wpX_values
  refine dr_xig_t hG hX hr hq (fun fo pa => br_f (by decide) ?_)
  refine dr_xfv_t hG hX hr hq ?_
  refine And.intro hi ?_
  by_cases h0 : 0 < vn (4 * r + q)
  · have e : 2 ≤ a_valueDepth (nI (dr_sm (dr_wV gn vn) (4 * r + q))).toNatClampNeg := by
      rw [nI_clamp (by omega), hD, dr_vd_2 h0]
      decide
    refine br_t e (nm_r (nI_1 _) (Exists.intro (vn (4 * r + q)) ?_))
    exact dr_vl hV hX.2.2.1.1 hb hM (hp _ _) (vn (4 * r + q) - 1) (vn (4 * r + q)) 1 (by omega) (by omega) (by omega)
  · have e : ¬ 2 ≤ a_valueDepth (nI (dr_sm (dr_wV gn vn) (4 * r + q))).toNatClampNeg := by
      rw [nI_clamp (by omega), hD]
      exact nI_ge (b := 2) (dr_vd_0 h0) (by omega)
    refine br_f e ?_
    have hp' := hp (nI (dr_sm (dr_wV gn vn) (4 * r + q))) (nI (dr_sm vn (4 * r + q)))
    rw [show vn (4 * r + q) = 0 from by omega] at hp'
    exact hp'
theorem dr_xvs_f {post : Int32 → SX → Prop} (hG : dr_G E op gn vn tg nd) (hX : dr_X E op gn vn tg nd f_isOpen f_begun f_ended f_noteCount f_tagEntries f_tagCount f_valueEntries f_valueCount f_openGroups f_openValues f_groupCount a_noteThere a_tagAgain a_tagDepth a_valueAgain a_valueDepth) {p0 p1 : Int32} (h : ¬ dr_ok E gn p0 p1) (hp : ∀ fo pa, post (-1) (f_isOpen, f_begun, f_ended, f_noteCount, f_tagEntries, f_tagCount, f_valueEntries, f_valueCount, f_openGroups, f_openValues, f_groupCount, fo, pa, a_noteThere, a_notes, a_tagAgain, a_tagDepth, a_tags, a_valueAgain, a_valueDepth, a_values)) : wpX_values post (f_isOpen, f_begun, f_ended, f_noteCount, f_tagEntries, f_tagCount, f_valueEntries, f_valueCount, f_openGroups, f_openValues, f_groupCount, f_found, f_passed, a_noteThere, a_notes, a_tagAgain, a_tagDepth, a_tags, a_valueAgain, a_valueDepth, a_values) p0 p1 := by
  unfold wpX_values
  exact dr_xig_f hG hX h (fun fo pa => br_t rfl (hp fo pa))
end
end
end
section
/-! what sumByTag and recordsWith compute, over slots a and over places k = 4 * a + j -/
def dr_vs (f : Nat → Int32) (s : Int32) : Nat → Int32
  | 0 => s
  | j + 1 => dr_vs f s j + f j
theorem dr_vs_s (f : Nat → Int32) (s : Int32) (j : Nat) : dr_vs f s (j + 1) = dr_vs f s j + f j := rfl
def dr_ps (E : Nat) (vn tg : Nat → Nat) (b_tags b_values : Nat → Int32) (t : Int32) : Nat → Int32
  | 0 => 0
  | a + 1 => if tg a = 1 ∧ b_tags a = t ∧ a / 4 < E then dr_vs (fun j => b_values (4 * a + j)) (dr_ps E vn tg b_tags b_values t a) (vn a) else dr_ps E vn tg b_tags b_values t a
section
variable {E : Nat} {vn tg : Nat → Nat} {b_tags b_values : Nat → Int32} {t : Int32}
theorem dr_ps_y {a : Nat} (h : tg a = 1 ∧ b_tags a = t ∧ a / 4 < E) : dr_ps E vn tg b_tags b_values t (a + 1) = dr_vs (fun j => b_values (4 * a + j)) (dr_ps E vn tg b_tags b_values t a) (vn a) := if_pos h
theorem dr_ps_n {a : Nat} (h : ¬ (tg a = 1 ∧ b_tags a = t ∧ a / 4 < E)) : dr_ps E vn tg b_tags b_values t (a + 1) = dr_ps E vn tg b_tags b_values t a := if_neg h
theorem dr_ps_E : ∀ d, dr_ps E vn tg b_tags b_values t (4 * E + d) = dr_ps E vn tg b_tags b_values t (4 * E) := by
  intro d
  induction d with
  | zero => rfl
  | succ d ih => rw [← Nat.add_assoc, dr_ps_n (by omega), ih]
end
abbrev dr_hk (lo hi : Int32) (vn : Nat → Nat) (b_values : Nat → Int32) (k : Nat) : Prop := k % 4 < vn (k / 4) ∧ ¬ b_values k < lo ∧ ¬ hi < b_values k
def dr_rw (E : Nat) (lo hi : Int32) (vn : Nat → Nat) (b_values : Nat → Int32) : Nat → Nat × Nat
  | 0 => (0, 0)
  | k + 1 => if dr_hk lo hi vn b_values k ∧ k / 16 < E ∧ ¬ (dr_rw E lo hi vn b_values k).2 = k / 16 + 1 then ((dr_rw E lo hi vn b_values k).1 + 1, k / 16 + 1) else dr_rw E lo hi vn b_values k
section
variable {E : Nat} {lo hi : Int32} {vn : Nat → Nat} {b_values : Nat → Int32}
theorem dr_rw_y {k : Nat} (h : dr_hk lo hi vn b_values k) (h2 : k / 16 < E) (h3 : ¬ (dr_rw E lo hi vn b_values k).2 = k / 16 + 1) : dr_rw E lo hi vn b_values (k + 1) = ((dr_rw E lo hi vn b_values k).1 + 1, k / 16 + 1) := if_pos ⟨h, h2, h3⟩
theorem dr_rw_n {k : Nat} (h : ¬ (dr_hk lo hi vn b_values k ∧ k / 16 < E ∧ ¬ (dr_rw E lo hi vn b_values k).2 = k / 16 + 1)) : dr_rw E lo hi vn b_values (k + 1) = dr_rw E lo hi vn b_values k := if_neg h
theorem dr_rw_b : ∀ k, (dr_rw E lo hi vn b_values k).2 ≤ E ∧ (dr_rw E lo hi vn b_values k).2 ≤ (k + 15) / 16 := by
  intro k
  induction k with
  | zero => exact ⟨Nat.zero_le _, Nat.zero_le _⟩
  | succ k ih =>
    by_cases h : dr_hk lo hi vn b_values k ∧ k / 16 < E ∧ ¬ (dr_rw E lo hi vn b_values k).2 = k / 16 + 1
    · rw [dr_rw_y h.1 h.2.1 h.2.2]
      have := h.2.1
      exact ⟨by show k / 16 + 1 ≤ E; omega, by show k / 16 + 1 ≤ (k + 1 + 15) / 16; omega⟩
    · rw [dr_rw_n h]
      omega
theorem dr_rw_E : ∀ d, dr_rw E lo hi vn b_values (16 * E + d) = dr_rw E lo hi vn b_values (16 * E) := by
  intro d
  induction d with
  | zero => rfl
  | succ d ih =>
    rw [← Nat.add_assoc, dr_rw_n, ih]
    intro h
    have := h.2.1
    omega
/-- places behind a slot's values -/
theorem dr_rw_v {a : Nat} : ∀ d, vn a + d ≤ 4 → dr_rw E lo hi vn b_values (4 * a + vn a + d) = dr_rw E lo hi vn b_values (4 * a + vn a) := by
  intro d
  induction d with
  | zero => intro _; rfl
  | succ d ih =>
    intro h
    rw [← Nat.add_assoc, dr_rw_n, ih (by omega)]
    intro z
    have z1 := z.1.1
    rw [show (4 * a + vn a + d) / 4 = a from by omega] at z1
    omega
theorem dr_rw_a {a : Nat} (h : vn a ≤ 4) : dr_rw E lo hi vn b_values (4 * (a + 1)) = dr_rw E lo hi vn b_values (4 * a + vn a) := by
  have := dr_rw_v (E := E) (lo := lo) (hi := hi) (b_values := b_values) (vn := vn) (a := a) (4 - vn a) (by omega)
  rw [← this]
  exact congrArg _ (by omega)
theorem dr_rw_r {r : Nat} (hr : r < E) : ∀ i, i ≤ 16 → ((∃ j, j < i ∧ dr_hk lo hi vn b_values (16 * r + j)) → dr_rw E lo hi vn b_values (16 * r + i) = ((dr_rw E lo hi vn b_values (16 * r)).1 + 1, r + 1)) ∧ ((¬ ∃ j, j < i ∧ dr_hk lo hi vn b_values (16 * r + j)) → dr_rw E lo hi vn b_values (16 * r + i) = dr_rw E lo hi vn b_values (16 * r)) := by
  intro i
  induction i with
  | zero =>
    intro _
    refine ⟨fun h => ?_, fun _ => rfl⟩
    obtain ⟨j, hj, _⟩ := h
    exact absurd hj (Nat.not_lt_zero j)
  | succ i ih =>
    intro hi'
    have e : (16 * r + i) / 16 = r := by omega
    have ih' := ih (by omega)
    by_cases h1 : ∃ j, j < i ∧ dr_hk lo hi vn b_values (16 * r + j)
    · have e1 := ih'.1 h1
      have e2 : dr_rw E lo hi vn b_values (16 * r + i + 1) = dr_rw E lo hi vn b_values (16 * r + i) := by
        apply dr_rw_n
        intro z
        apply z.2.2
        rw [e1, e]
      refine ⟨fun _ => ?_, fun h => ?_⟩
      · rw [← Nat.add_assoc, e2, e1]
      · obtain ⟨j, hj, hk⟩ := h1
        exact absurd ⟨j, by omega, hk⟩ h
    · have e1 := ih'.2 h1
      have hb := (dr_rw_b (E := E) (lo := lo) (hi := hi) (vn := vn) (b_values := b_values) (16 * r)).2
      by_cases h2 : dr_hk lo hi vn b_values (16 * r + i)
      · have e2 : dr_rw E lo hi vn b_values (16 * r + i + 1) = ((dr_rw E lo hi vn b_values (16 * r + i)).1 + 1, (16 * r + i) / 16 + 1) := by
          apply dr_rw_y h2 (by omega)
          rw [e1, e]
          omega
        refine ⟨fun _ => ?_, fun h => ?_⟩
        · rw [← Nat.add_assoc, e2, e1, e]
        · exact absurd ⟨i, by omega, h2⟩ h
      · have e2 : dr_rw E lo hi vn b_values (16 * r + i + 1) = dr_rw E lo hi vn b_values (16 * r + i) := by
          apply dr_rw_n
          intro z
          exact h2 z.1
        refine ⟨fun h => ?_, fun _ => ?_⟩
        · obtain ⟨j, hj, hk⟩ := h
          by_cases e3 : j = i
          · rw [e3] at hk
            exact absurd hk h2
          · exact absurd ⟨j, by omega, hk⟩ h1
        · rw [← Nat.add_assoc, e2, e1]
end
theorem dr_eqm {x L : Nat} (hx : x < 2 ^ 30) (hL : L < 2 ^ 30) : nI x = nI L - 1 ↔ L = x + 1 := by
  constructor
  · intro h
    have h2 : nI x + 1 = nI L - 1 + 1 := congrArg (fun y => y + 1) h
    rw [nI_1, Int32.sub_add_cancel] at h2
    exact ((nI_eq (by omega) (by omega)).mp h2).symm
  · intro h
    rw [h, nI_pred]
end
section
/-! the component: sumByTag, recordsWith -/
def dr_sl (w : Nat) (f : Nat → Int32) (s : Int32) (j : Nat) : Int32 := if w = 1 then dr_vs f s j else s
theorem dr_sl_0 (w : Nat) (f : Nat → Int32) (s : Int32) : dr_sl w f s 0 = s := by
  unfold dr_sl
  split <;> rfl
section
variable {f_isOpen f_begun f_ended f_noteCount f_tagEntries f_tagCount f_valueEntries f_valueCount f_openGroups f_openValues f_groupCount f_found f_passed : Int32} {a_noteThere a_notes a_tagAgain a_tagDepth a_tags a_valueAgain a_valueDepth a_values : Nat → Int32}
section
variable {E : Nat} {gn vn tg : Nat → Nat} {m M : Nat} {b_tags b_values : Nat → Int32}
theorem dr_s126 {post : Int32 → Prop} {J : Int32 → Int32 → Int32 → Int32 → Int32 → Int32 → Int32 → Prop} {t s x3 x4 x6 : Int32} {a j w : Nat} (hV : dr_VC m gn vn a_valueAgain a_valueDepth) (hb : dr_sm (dr_wV gn vn) m ≤ 112) (hm : m ≤ M) (hvb : dr_sm vn M ≤ 60) (hL : ∀ a j, j < vn a → a_values (dr_sm vn a + j) = b_values (4 * a + j)) (ha : a < m) (hj : j < vn a) (hw : w ≤ 1) (K : J (dr_sl w (fun j => b_values (4 * a + j)) s (j + 1)) x3 x4 (nI (dr_sm vn a + (j + 1))) x6 (nI w) (nI (dr_sm (dr_wV gn vn) a + (j + 1)))) : wX_sumByTag_126 post J t (dr_sl w (fun j => b_values (4 * a + j)) s j) x3 x4 (nI (dr_sm vn a + j)) x6 (nI w) (nI (dr_sm (dr_wV gn vn) a + j)) f_isOpen f_begun f_ended f_noteCount f_tagEntries f_tagCount f_valueEntries f_valueCount f_openGroups f_openValues f_groupCount f_found f_passed a_noteThere a_notes a_tagAgain a_tagDepth a_tags a_valueAgain a_valueDepth a_values := by
  have h0 : 0 < vn a := by omega
  have hwv : dr_wV gn vn a = vn a := dr_wV_v h0
  have hs := dr_sm_al (dr_wV gn vn) ha
  have hs2 := dr_sm_al vn (a := a) (b := M) (by omega)
  have hi : vp_in (nI (dr_sm (dr_wV gn vn) a + j)) 112 := vp_in_nI (by omega) (by omega)
  have hi2 : vp_in (nI (dr_sm vn a + j)) 60 := vp_in_nI (by omega) (by omega)
  have hD : a_valueDepth (nI (dr_sm (dr_wV gn vn) a + j)).toNatClampNeg = 2 := by
    rw [nI_clamp (by omega), (hV a ha j (by omega)).2]
    exact dr_vd_2 h0
  refine And.intro hi (br_t hD ?_)
  by_cases h1 : w = 1
  · subst h1
    have e : dr_sl 1 (fun j => b_values (4 * a + j)) s j + a_values (nI (dr_sm vn a + j)).toNatClampNeg = dr_sl 1 (fun j => b_values (4 * a + j)) s (j + 1) := by
      rw [nI_clamp (by omega), hL a j hj]
      rfl
    exact br_f (by decide) (And.intro hi2 (nm_r e (nm_r (nI_1 _) (nm_r (nI_1 _) K))))
  · have h2 : w = 0 := by omega
    subst h2
    exact br_t nI_0 (nm_r (Int32.add_zero _) (nm_r (nI_1 _) (nm_r (nI_1 _) K)))
theorem dr_s126z {post : Int32 → Prop} {J : Int32 → Int32 → Int32 → Int32 → Int32 → Int32 → Int32 → Prop} {t x2 x3 x4 x5 x6 x7 : Int32} {a : Nat} (hV : dr_VC m gn vn a_valueAgain a_valueDepth) (hb : dr_sm (dr_wV gn vn) m ≤ 112) (ha : a < m) (hw : 0 < dr_wV gn vn a) (h0 : ¬ 0 < vn a) (K : J x2 x3 x4 x5 x6 x7 (nI (dr_sm (dr_wV gn vn) a + 1))) : wX_sumByTag_126 post J t x2 x3 x4 x5 x6 x7 (nI (dr_sm (dr_wV gn vn) a)) f_isOpen f_begun f_ended f_noteCount f_tagEntries f_tagCount f_valueEntries f_valueCount f_openGroups f_openValues f_groupCount f_found f_passed a_noteThere a_notes a_tagAgain a_tagDepth a_tags a_valueAgain a_valueDepth a_values := by
  have hs := dr_sm_al (dr_wV gn vn) ha
  have hi : vp_in (nI (dr_sm (dr_wV gn vn) a)) 112 := vp_in_nI (by omega) (by omega)
  have hD : ¬ a_valueDepth (nI (dr_sm (dr_wV gn vn) a)).toNatClampNeg = 2 := by
    have h1 := (hV a ha 0 hw).2
    rw [Nat.add_zero] at h1
    rw [nI_clamp (by omega), h1]
    exact dr_2 (dr_vd_0 h0)
  exact And.intro hi (br_f hD (nm_r (nI_1 _) K))
theorem dr_si {post : Int32 → Prop} {t s x3 x4 x6 : Int32} {a w B : Nat} (hV : dr_VC m gn vn a_valueAgain a_valueDepth) (hE : f_valueEntries = nI (dr_sm (dr_wV gn vn) m)) (hb : dr_sm (dr_wV gn vn) m ≤ 112) (hm : m ≤ M) (hvb : dr_sm vn M ≤ 60) (hL : ∀ a j, j < vn a → a_values (dr_sm vn a + j) = b_values (4 * a + j)) (ha : a < m) (hw : w ≤ 1) (hB : dr_sm (dr_wV gn vn) (a + 1) ≤ B) (K : ∀ n, B - dr_sm (dr_wV gn vn) (a + 1) < n → wX_sumByTag_19 post t f_isOpen f_begun f_ended f_noteCount f_tagEntries f_tagCount f_valueEntries f_valueCount f_openGroups f_openValues f_groupCount f_found f_passed a_noteThere a_notes a_tagAgain a_tagDepth a_tags a_valueAgain a_valueDepth a_values n (dr_sl w (fun j => b_values (4 * a + j)) s (vn a)) x3 x4 (nI (dr_sm vn (a + 1))) x6 (nI w) (nI (dr_sm (dr_wV gn vn) (a + 1)))) : ∀ d j n, j + d = dr_wV gn vn a → 0 < j → B - (dr_sm (dr_wV gn vn) a + j) < n → wX_sumByTag_19 post t f_isOpen f_begun f_ended f_noteCount f_tagEntries f_tagCount f_valueEntries f_valueCount f_openGroups f_openValues f_groupCount f_found f_passed a_noteThere a_notes a_tagAgain a_tagDepth a_tags a_valueAgain a_valueDepth a_values n (dr_sl w (fun j => b_values (4 * a + j)) s (if 0 < vn a then j else 0)) x3 x4 (nI (dr_sm vn a + (if 0 < vn a then j else 0))) x6 (nI w) (nI (dr_sm (dr_wV gn vn) a + j)) := by
  intro d
  induction d with
  | zero =>
    intro j n e hj hn
    have e' : j = dr_wV gn vn a := by omega
    have hK := K n (by rw [dr_sm_s]; omega)
    rw [dr_sm_s, dr_sm_s] at hK
    rw [e']
    have e2 : (if 0 < vn a then dr_wV gn vn a else 0) = vn a := by
      by_cases h : 0 < vn a
      · rw [if_pos h, dr_wV_v h]
      · rw [if_neg h]
        omega
    rw [e2]
    exact hK
  | succ d ih =>
    intro j n e hj hn
    rw [dr_sm_s] at hB
    have hv : 0 < vn a := by
      by_cases h : 0 < vn a
      · exact h
      · have h1 := dr_wT_1 gn a
        rw [dr_wV_0 h] at e
        omega
    have hwv : dr_wV gn vn a = vn a := dr_wV_v hv
    have hs := dr_sm_al (dr_wV gn vn) ha
    obtain ⟨n, rfl⟩ : ∃ m, n = m + 1 := ⟨n - 1, by omega⟩
    have J := ih (j + 1) n (by omega) (by omega) (by omega)
    rw [if_pos hv] at J ⊢
    have h1 : ¬ f_valueEntries ≤ nI (dr_sm (dr_wV gn vn) a + j) := by rw [hE]; exact nI_ge (by omega) (by omega)
    have hi : vp_in (nI (dr_sm (dr_wV gn vn) a + j)) 112 := vp_in_nI (by omega) (by omega)
    have hA : 2 ≤ a_valueAgain (nI (dr_sm (dr_wV gn vn) a + j)).toNatClampNeg := by
      rw [nI_clamp (by omega), (hV a ha j (by omega)).1, dr_va_1 hj]
      decide
    exact br_f h1 (And.intro hi (br_t hA (dr_s126 hV hb hm hvb hL ha (by omega) hw J)))
theorem dr_sb0 {post : Int32 → Prop} {t x2 x5 x7 : Int32} {a w n : Nat} (hT : dr_TC M gn tg a_tagAgain a_tagDepth) (hV : dr_VC m gn vn a_valueAgain a_valueDepth) (hE : f_valueEntries = nI (dr_sm (dr_wV gn vn) m)) (hb : dr_sm (dr_wV gn vn) m ≤ 112) (hm : m ≤ M) (hM : M ≤ 48) (hTb : dr_sm (dr_wT gn) M ≤ 52) (htb : dr_sm tg M ≤ 40) (ht : ∀ a, tg a ≤ 1) (htr : ∀ a, 0 < tg a → a % 4 < gn (a / 4)) (hL : ∀ a, tg a = 1 → a_tags (dr_sm tg a) = b_tags a) (hEn : f_ended = nI E) (hE12 : E ≤ 12) (ha : a < m) (hwv : 0 < dr_wV gn vn a) (hwt : dr_wT gn a = 1) (hw : w = if tg a = 1 ∧ b_tags a = t ∧ a / 4 < E then 1 else 0) (K : wX_sumByTag_126 post (wX_sumByTag_19 post t f_isOpen f_begun f_ended f_noteCount f_tagEntries f_tagCount f_valueEntries f_valueCount f_openGroups f_openValues f_groupCount f_found f_passed a_noteThere a_notes a_tagAgain a_tagDepth a_tags a_valueAgain a_valueDepth a_values n) t x2 (nI (dr_sm (dr_wT gn) a)) (nI (dr_sm tg (a + 1))) x5 (nI (a / 4)) (nI w) (nI (dr_sm (dr_wV gn vn) a)) f_isOpen f_begun f_ended f_noteCount f_tagEntries f_tagCount f_valueEntries f_valueCount f_openGroups f_openValues f_groupCount f_found f_passed a_noteThere a_notes a_tagAgain a_tagDepth a_tags a_valueAgain a_valueDepth a_values) : wX_sumByTag_19 post t f_isOpen f_begun f_ended f_noteCount f_tagEntries f_tagCount f_valueEntries f_valueCount f_openGroups f_openValues f_groupCount f_found f_passed a_noteThere a_notes a_tagAgain a_tagDepth a_tags a_valueAgain a_valueDepth a_values (n + 1) x2 (nI (dr_sm (dr_wT gn) a) - 1) (nI (dr_sm tg a)) x5 (nI ((a + 3) / 4) - 1) x7 (nI (dr_sm (dr_wV gn vn) a)) := by
  have hs := dr_sm_al (dr_wV gn vn) ha
  have hs2 := dr_sm_al (dr_wT gn) (a := a) (b := M) (by omega)
  have hs3 := dr_sm_al tg (a := a) (b := M) (by omega)
  have h1 : ¬ f_valueEntries ≤ nI (dr_sm (dr_wV gn vn) a) := by rw [hE]; exact nI_ge (by omega) (by omega)
  have hi : vp_in (nI (dr_sm (dr_wV gn vn) a)) 112 := vp_in_nI (by omega) (by omega)
  have hi2 : vp_in (nI (dr_sm (dr_wT gn) a)) 52 := vp_in_nI (by omega) (by omega)
  have hA : a_valueAgain (nI (dr_sm (dr_wV gn vn) a)).toNatClampNeg = nI (dr_ag a) := by rw [nI_clamp (by omega)]; exact (hV a ha 0 hwv).1
  have hA2 : ¬ 2 ≤ a_valueAgain (nI (dr_sm (dr_wV gn vn) a)).toNatClampNeg := by
    rw [hA]
    exact nI_ge (b := 2) (dr_ag_2 a) (by omega)
  have hD : a_tagDepth (nI (dr_sm (dr_wT gn) a)).toNatClampNeg = nI (dr_td gn tg a) := by rw [nI_clamp (by omega)]; exact (hT a (by omega) hwt).2
  have ht1 := ht a
  have K59 : vp_in (nI (dr_sm (dr_wT gn) a)) 52 ∧ ((a_tagDepth (nI (dr_sm (dr_wT gn) a)).toNatClampNeg = 2 → wX_sumByTag_77 post (wX_sumByTag_19 post t f_isOpen f_begun f_ended f_noteCount f_tagEntries f_tagCount f_valueEntries f_valueCount f_openGroups f_openValues f_groupCount f_found f_passed a_noteThere a_notes a_tagAgain a_tagDepth a_tags a_valueAgain a_valueDepth a_values n) t x2 (nI (dr_sm (dr_wT gn) a)) (nI (dr_sm tg a)) x5 (nI (a / 4)) (nI (dr_sm (dr_wV gn vn) a)) 1 f_isOpen f_begun f_ended f_noteCount f_tagEntries f_tagCount f_valueEntries f_valueCount f_openGroups f_openValues f_groupCount f_found f_passed a_noteThere a_notes a_tagAgain a_tagDepth a_tags a_valueAgain a_valueDepth a_values) ∧ (¬ a_tagDepth (nI (dr_sm (dr_wT gn) a)).toNatClampNeg = 2 → wX_sumByTag_77 post (wX_sumByTag_19 post t f_isOpen f_begun f_ended f_noteCount f_tagEntries f_tagCount f_valueEntries f_valueCount f_openGroups f_openValues f_groupCount f_found f_passed a_noteThere a_notes a_tagAgain a_tagDepth a_tags a_valueAgain a_valueDepth a_values n) t x2 (nI (dr_sm (dr_wT gn) a)) (nI (dr_sm tg a)) x5 (nI (a / 4)) (nI (dr_sm (dr_wV gn vn) a)) 0 f_isOpen f_begun f_ended f_noteCount f_tagEntries f_tagCount f_valueEntries f_valueCount f_openGroups f_openValues f_groupCount f_found f_passed a_noteThere a_notes a_tagAgain a_tagDepth a_tags a_valueAgain a_valueDepth a_values)) := by
    refine And.intro hi2 ?_
    by_cases h2 : tg a = 1
    · have e1 : a_tagDepth (nI (dr_sm (dr_wT gn) a)).toNatClampNeg = 2 := by
        rw [hD]
        unfold dr_td
        rw [if_pos (htr a (by omega)), h2]
        rfl
      have e2 : nI (dr_sm tg a) + 1 = nI (dr_sm tg (a + 1)) := by rw [nI_1, dr_sm_s, h2]
      have hi3 : vp_in (nI (dr_sm tg a)) 40 := vp_in_nI (by omega) (by omega)
      have e3 : a_tags (nI (dr_sm tg a)).toNatClampNeg = b_tags a := by rw [nI_clamp (by omega)]; exact hL a h2
      have K109 : ∀ z : Int32, z = nI w → wX_sumByTag_109 post (wX_sumByTag_19 post t f_isOpen f_begun f_ended f_noteCount f_tagEntries f_tagCount f_valueEntries f_valueCount f_openGroups f_openValues f_groupCount f_found f_passed a_noteThere a_notes a_tagAgain a_tagDepth a_tags a_valueAgain a_valueDepth a_values n) t x2 (nI (dr_sm (dr_wT gn) a)) (nI (dr_sm tg a)) x5 (nI (a / 4)) (nI (dr_sm (dr_wV gn vn) a)) 1 z f_isOpen f_begun f_ended f_noteCount f_tagEntries f_tagCount f_valueEntries f_valueCount f_openGroups f_openValues f_groupCount f_found f_passed a_noteThere a_notes a_tagAgain a_tagDepth a_tags a_valueAgain a_valueDepth a_values := by
        intro z ez
        subst ez
        exact br_f (by decide) (nm_r e2 K)
      refine br_t e1 (br_f (by decide) (And.intro hi3 ?_))
      by_cases h3 : b_tags a = t
      · refine br_t (e3.trans h3) ?_
        by_cases h4 : a / 4 < E
        · refine br_f ?_ (K109 1 ?_)
          · rw [hEn]
            exact nI_ge h4 (by omega)
          · rw [hw, if_pos ⟨h2, h3, h4⟩]
            rfl
        · refine br_t ?_ (K109 0 ?_)
          · rw [hEn]
            exact nI_le (by omega) (by omega)
          · rw [hw, if_neg (fun z => h4 z.2.2)]
            rfl
      · refine br_f (fun z => h3 (e3.symm.trans z)) (K109 0 ?_)
        rw [hw, if_neg (fun z => h3 z.2.1)]
        rfl
    · have e1 : ¬ a_tagDepth (nI (dr_sm (dr_wT gn) a)).toNatClampNeg = 2 := by
        rw [hD]
        apply dr_2
        unfold dr_td
        split <;> omega
      have e2 : nI (dr_sm tg a) + 0 = nI (dr_sm tg (a + 1)) := by
        rw [Int32.add_zero, dr_sm_s]
        exact congrArg nI (by omega)
      have ew : w = 0 := by rw [hw, if_neg (fun z => h2 z.1)]
      rw [ew] at K
      exact br_f e1 (br_t rfl (br_t rfl (nm_r e2 K)))
  refine br_f h1 (And.intro hi (br_f hA2 (nm_r (e' := nI (dr_sm (dr_wT gn) a)) (Int32.sub_add_cancel _ _) (And.intro hi ?_))))
  by_cases h0 : a % 4 = 0
  · have e : a_valueAgain (nI (dr_sm (dr_wV gn vn) a)).toNatClampNeg = 0 := by rw [hA]; exact dr_ag_0 h0
    exact br_t e (nm_r (dr_r1 h0) K59)
  · have e : ¬ a_valueAgain (nI (dr_sm (dr_wV gn vn) a)).toNatClampNeg = 0 := by rw [hA, dr_ag_1 h0]; decide
    exact br_f e (nm_r (dr_r0 h0) K59)
theorem dr_xsl {post : Int32 → Prop} {t : Int32} (hT : dr_TC M gn tg a_tagAgain a_tagDepth) (hV : dr_VC m gn vn a_valueAgain a_valueDepth) (hE : f_valueEntries = nI (dr_sm (dr_wV gn vn) m)) (hb : dr_sm (dr_wV gn vn) m ≤ 112) (hm : m ≤ M) (hM : M ≤ 48) (hTb : dr_sm (dr_wT gn) M ≤ 52) (htb : dr_sm tg M ≤ 40) (hvb : dr_sm vn M ≤ 60) (ht : ∀ a, tg a ≤ 1) (htr : ∀ a, 0 < tg a → a % 4 < gn (a / 4)) (hv : ∀ a, 0 < vn a → a % 4 < gn (a / 4)) (hL : ∀ a, tg a = 1 → a_tags (dr_sm tg a) = b_tags a) (hLv : ∀ a j, j < vn a → a_values (dr_sm vn a + j) = b_values (4 * a + j)) (hEn : f_ended = nI E) (hE12 : E ≤ 12) (hp : post (dr_ps E vn tg b_tags b_values t m)) : ∀ (d a n : Nat) (x7 : Int32), a + d = m → dr_sm (dr_wV gn vn) m - dr_sm (dr_wV gn vn) a < n → wX_sumByTag_19 post t f_isOpen f_begun f_ended f_noteCount f_tagEntries f_tagCount f_valueEntries f_valueCount f_openGroups f_openValues f_groupCount f_found f_passed a_noteThere a_notes a_tagAgain a_tagDepth a_tags a_valueAgain a_valueDepth a_values n (dr_ps E vn tg b_tags b_values t a) (nI (dr_sm (dr_wT gn) a) - 1) (nI (dr_sm tg a)) (nI (dr_sm vn a)) (nI ((a + 3) / 4) - 1) x7 (nI (dr_sm (dr_wV gn vn) a)) := by
  intro d
  induction d with
  | zero =>
    intro a n x7 e hn
    have e' : a = m := by omega
    subst e'
    obtain ⟨n, rfl⟩ : ∃ m, n = m + 1 := ⟨n - 1, by omega⟩
    have h1 : f_valueEntries ≤ nI (dr_sm (dr_wV gn vn) a) := by
      rw [hE]
      exact nI_le (Nat.le_refl _) (by omega)
    exact br_t h1 hp
  | succ d ih =>
    intro a n x7 e hn
    by_cases hwt : dr_wT gn a = 1
    · have hwv : 0 < dr_wV gn vn a := (dr_wV_w hv).mpr hwt
      have ha : a < m := by omega
      have hs := dr_sm_al (dr_wV gn vn) ha
      obtain ⟨n, rfl⟩ : ∃ m, n = m + 1 := ⟨n - 1, by omega⟩
      obtain ⟨w, hw⟩ : ∃ w : Nat, w = if tg a = 1 ∧ b_tags a = t ∧ a / 4 < E then 1 else 0 := ⟨_, rfl⟩
      have hw1 : w ≤ 1 := by
        rw [hw]
        split <;> omega
      have ep : dr_sl w (fun j => b_values (4 * a + j)) (dr_ps E vn tg b_tags b_values t a) (vn a) = dr_ps E vn tg b_tags b_values t (a + 1) := by
        unfold dr_sl
        by_cases h : tg a = 1 ∧ b_tags a = t ∧ a / 4 < E
        · rw [if_pos h] at hw
          rw [if_pos hw, dr_ps_y h]
        · rw [if_neg h] at hw
          rw [if_neg (by omega), dr_ps_n h]
      have J : ∀ n, dr_sm (dr_wV gn vn) m - dr_sm (dr_wV gn vn) (a + 1) < n → wX_sumByTag_19 post t f_isOpen f_begun f_ended f_noteCount f_tagEntries f_tagCount f_valueEntries f_valueCount f_openGroups f_openValues f_groupCount f_found f_passed a_noteThere a_notes a_tagAgain a_tagDepth a_tags a_valueAgain a_valueDepth a_values n (dr_sl w (fun j => b_values (4 * a + j)) (dr_ps E vn tg b_tags b_values t a) (vn a)) (nI (dr_sm (dr_wT gn) a)) (nI (dr_sm tg (a + 1))) (nI (dr_sm vn (a + 1))) (nI (a / 4)) (nI w) (nI (dr_sm (dr_wV gn vn) (a + 1))) := by
        intro n hn
        have J := ih (a + 1) n (nI w) (by omega) hn
        rw [dr_r2, show dr_sm (dr_wT gn) (a + 1) = dr_sm (dr_wT gn) a + 1 from by rw [dr_sm_s, hwt], nI_pred, ← ep] at J
        exact J
      have J2 := dr_si hV hE hb hm hvb hLv ha hw1 (dr_sm_le _ (by omega)) J (dr_wV gn vn a - 1) 1 n (by omega) (by omega) (by omega)
      refine dr_sb0 hT hV hE hb hm hM hTb htb ht htr hL hEn hE12 ha hwv hwt hw ?_
      by_cases h0 : 0 < vn a
      · rw [if_pos h0] at J2
        have K := dr_s126 (f_isOpen := f_isOpen) (f_begun := f_begun) (f_ended := f_ended) (f_noteCount := f_noteCount) (f_tagEntries := f_tagEntries) (f_tagCount := f_tagCount) (f_valueEntries := f_valueEntries) (f_valueCount := f_valueCount) (f_openGroups := f_openGroups) (f_openValues := f_openValues) (f_groupCount := f_groupCount) (f_found := f_found) (f_passed := f_passed) (a_noteThere := a_noteThere) (a_notes := a_notes) (a_tagAgain := a_tagAgain) (a_tagDepth := a_tagDepth) (a_tags := a_tags) (a_valueAgain := a_valueAgain) (a_valueDepth := a_valueDepth) (a_values := a_values) (post := post) (t := t) (j := 0) hV hb hm hvb hLv ha h0 hw1 J2
        rw [dr_sl_0] at K
        exact K
      · rw [if_neg h0, dr_sl_0] at J2
        exact dr_s126z hV hb ha hwv h0 J2
    · have h1 := dr_wT_e hwt
      have h0 : dr_wV gn vn a = 0 := by
        have := dr_wV_w hv (a := a)
        omega
      have h2 : vn a = 0 := by
        by_cases z : 0 < vn a
        · have := hv a z
          omega
        · omega
      have h3 : tg a = 0 := by
        by_cases z : 0 < tg a
        · have := htr a z
          omega
        · omega
      have J := ih (a + 1) n x7 (by omega) (by rw [dr_sm_s, h0]; exact hn)
      rw [dr_ps_n (fun z => by have := z.1; omega), dr_sm_s, dr_sm_s, dr_sm_s, dr_sm_s, dr_wT_0 hwt, h0, h2, h3, show (a + 1 + 3) / 4 = (a + 3) / 4 from by omega] at J
      exact J
end
section
variable {E op : Nat} {gn vn tg nd : Nat → Nat} {b_notes b_tags b_values : Nat → Int32}
theorem dr_xsum {post : Int32 → Prop} {t : Int32} (hG : dr_G E op gn vn tg nd) (hX : dr_X E op gn vn tg nd f_isOpen f_begun f_ended f_noteCount f_tagEntries f_tagCount f_valueEntries f_valueCount f_openGroups f_openValues f_groupCount a_noteThere a_tagAgain a_tagDepth a_valueAgain a_valueDepth) (hL : dr_L vn tg nd a_notes a_tags a_values b_notes b_tags b_values) (hp : post (dr_ps E vn tg b_tags b_values t (4 * E))) : wpX_sumByTag post (f_isOpen, f_begun, f_ended, f_noteCount, f_tagEntries, f_tagCount, f_valueEntries, f_valueCount, f_openGroups, f_openValues, f_groupCount, f_found, f_passed, a_noteThere, a_notes, a_tagAgain, a_tagDepth, a_tags, a_valueAgain, a_valueDepth, a_values) t := by
  have hE := dr_G_E hG
  have h1 := dr_G_tg hG
  have h2 := dr_G_40 hG
  have h3 : 4 * E ≤ dr_Mv E gn vn := dr_Mv_ge
  have hp' : post (dr_ps E vn tg b_tags b_values t (dr_Mv E gn vn)) := by
    have e := dr_ps_E (E := E) (vn := vn) (tg := tg) (b_tags := b_tags) (b_values := b_values) (t := t) (dr_Mv E gn vn - 4 * E)
    rw [show 4 * E + (dr_Mv E gn vn - 4 * E) = dr_Mv E gn vn from by omega] at e
    rw [e]
    exact hp
  have h := dr_xsl hX.2.2.2.2.2.1 hX.2.2.2.2.2.2 hX.2.2.1.1 (dr_Mv_V hG) dr_Mv_le (dr_M_48 hG) (dr_G_T hG) (by omega) (dr_G_60 hG) (dr_G_t hG) (dr_G_tr hG) (dr_G_vr hG) hL.2.1.1 hL.2.2 hX.1.2.2.1 (by omega) hp' (f_isOpen := f_isOpen) (f_begun := f_begun) (f_ended := f_ended) (f_noteCount := f_noteCount) (f_tagEntries := f_tagEntries) (f_tagCount := f_tagCount) (f_valueEntries := f_valueEntries) (f_valueCount := f_valueCount) (f_openGroups := f_openGroups) (f_openValues := f_openValues) (f_groupCount := f_groupCount) (f_found := f_found) (f_passed := f_passed) (a_noteThere := a_noteThere) (a_notes := a_notes) (a_tagAgain := a_tagAgain) (a_tagDepth := a_tagDepth) (a_tags := a_tags) (a_valueAgain := a_valueAgain) (a_valueDepth := a_valueDepth) (a_values := a_values) (dr_Mv E gn vn) 0 (dr_sm (dr_wV gn vn) (dr_Mv E gn vn) + 1) 0 (by omega) (by omega)
  rw [dr_m1] at h
  exact Exists.intro _ h
end
end
end
section
/-! the reference's walks -/
section
variable {g_records g_open g_allGroups g_allValues : Int32} {b_noted b_notes b_groupsOf b_tagged b_tags b_valuesOf b_values : Nat → Int32}
variable {E op : Nat} {gn vn tg nd : Nat → Nat}
theorem dr_ye {post : Int32 → Prop} (hG : dr_G E op gn vn tg nd) (hY : dr_Y E op gn vn tg nd g_records g_open g_allGroups g_allValues b_noted b_groupsOf b_tagged b_valuesOf) (hp : post (nI E)) : wpY_ended post (g_records, g_open, g_allGroups, g_allValues, b_noted, b_notes, b_groupsOf, b_tagged, b_tags, b_valuesOf, b_values) := by
  have h1 := dr_G_E hG
  by_cases h0 : op = 0
  · have e : g_open = 0 := by rw [hY.1.2.1, h0]; exact nI_0
    refine br_t e ?_
    rw [hY.1.1, h0]
    exact hp
  · have e : ¬ g_open = 0 := by rw [hY.1.2.1]; exact nI_ne0 (by omega) (by omega)
    refine br_f e ?_
    rw [hY.1.1, show E + op = E + 1 from by omega, nI_pred]
    exact hp
theorem dr_yms_t {post : Int32 → Prop} (hG : dr_G E op gn vn tg nd) (hY : dr_Y E op gn vn tg nd g_records g_open g_allGroups g_allValues b_noted b_groupsOf b_tagged b_valuesOf) {r : Nat} (hr : r < E) (hp : post 0) : wpY_missing post (g_records, g_open, g_allGroups, g_allValues, b_noted, b_notes, b_groupsOf, b_tagged, b_tags, b_valuesOf, b_values) (nI r) := by
  have h1 := dr_G_E hG
  exact br_f (nI_pos (by omega)) (dr_ye hG hY (br_t (nI_lt hr (by omega)) hp))
theorem dr_yms_f {post : Int32 → Prop} (hG : dr_G E op gn vn tg nd) (hY : dr_Y E op gn vn tg nd g_records g_open g_allGroups g_allValues b_noted b_groupsOf b_tagged b_valuesOf) {p0 : Int32} (h : p0 < 0 ∨ nI E ≤ p0) (hp : post 1) : wpY_missing post (g_records, g_open, g_allGroups, g_allValues, b_noted, b_notes, b_groupsOf, b_tagged, b_tags, b_valuesOf, b_values) p0 := by
  by_cases h0 : p0 < 0
  · exact br_t h0 hp
  · refine br_f h0 (dr_ye hG hY (br_f ?_ hp))
    cases h with
    | inl h => exact absurd h h0
    | inr h => exact Int32.not_lt.mpr h
theorem dr_yng_t {post : Int32 → Prop} (hG : dr_G E op gn vn tg nd) (hY : dr_Y E op gn vn tg nd g_records g_open g_allGroups g_allValues b_noted b_groupsOf b_tagged b_valuesOf) {r q : Nat} (hr : r < E) (hq : q < gn r) (hp : post 0) : wpY_noGroup post (g_records, g_open, g_allGroups, g_allValues, b_noted, b_notes, b_groupsOf, b_tagged, b_tags, b_valuesOf, b_values) (nI r) (nI q) := by
  have h1 := dr_G_E hG
  have hg := dr_G_g hG r
  unfold wpY_noGroup
  refine dr_yms_t hG hY hr (br_t rfl (br_f (nI_pos (by omega)) (And.intro (vp_in_nI (by omega) (by omega)) (br_t ?_ hp))))
  rw [nI_clamp (by omega), hY.2.2.1]
  exact nI_lt hq (by omega)
theorem dr_yng_f {post : Int32 → Prop} (hG : dr_G E op gn vn tg nd) (hY : dr_Y E op gn vn tg nd g_records g_open g_allGroups g_allValues b_noted b_groupsOf b_tagged b_valuesOf) {p0 p1 : Int32} (h : ¬ dr_ok E gn p0 p1) (hp : post 1) : wpY_noGroup post (g_records, g_open, g_allGroups, g_allValues, b_noted, b_notes, b_groupsOf, b_tagged, b_tags, b_valuesOf, b_values) p0 p1 := by
  have hE := dr_G_E hG
  unfold wpY_noGroup
  by_cases h1 : p0 < 0 ∨ nI E ≤ p0
  · exact dr_yms_f hG hY h1 (br_f (by decide) hp)
  · obtain ⟨r, hr, rfl⟩ : ∃ r : Nat, r < E ∧ p0 = nI r := by
      cases pk_ix p0 (n := E) (by omega) with
      | inl h2 => exact absurd (Or.inl h2) h1
      | inr h2 => cases h2 with
        | inl h3 => exact absurd (Or.inr h3) h1
        | inr h3 => exact h3
    have hg := dr_G_g hG r
    refine dr_yms_t hG hY hr (br_t rfl ?_)
    by_cases h2 : p1 < 0
    · exact br_t h2 hp
    · obtain ⟨q, hq, rfl⟩ := nI_of h2
      refine br_f h2 (And.intro (vp_in_nI (by omega) (by omega)) (br_f ?_ hp))
      rw [nI_clamp (by omega), hY.2.2.1]
      refine nI_nlt ?_ hq
      by_cases h3 : gn r ≤ q
      · exact h3
      · exact absurd ⟨r, q, hr, by omega, rfl, rfl⟩ h
theorem dr_y38n {post : Int32 → Prop} {J : Int32 → Int32 → Prop} {t s x4 : Int32} {a : Nat} (ha : a < 48) (hY : dr_Y E op gn vn tg nd g_records g_open g_allGroups g_allValues b_noted b_groupsOf b_tagged b_valuesOf) (ht : ∀ a, tg a ≤ 1) (hn : ¬ (tg a = 1 ∧ b_tags a = t)) (K : J s (nI (a + 1))) : ∀ d n v, v + d = 4 → d < n → wY_sumByTag_38 post J t (nI a) x4 g_records g_open g_allGroups g_allValues b_noted b_notes b_groupsOf b_tagged b_tags b_valuesOf b_values n s (nI v) := by
  intro d
  induction d with
  | zero =>
    intro n v e h
    obtain ⟨n, rfl⟩ : ∃ m, n = m + 1 := ⟨n - 1, by omega⟩
    have e' : v = 4 := by omega
    rw [e']
    exact br_t (by decide) (nm_r (nI_1 a) K)
  | succ d ih =>
    intro n v e h
    obtain ⟨n, rfl⟩ : ∃ m, n = m + 1 := ⟨n - 1, by omega⟩
    have J2 := ih n (v + 1) (by omega) (by omega)
    have hi : vp_in (nI a) 48 := vp_in_nI ha (by omega)
    refine br_f (nI_ge (b := 4) (by omega) (by omega)) (br_c (fun _ => nm_r (nI_1 v) J2) (fun _ => And.intro hi ?_))
    by_cases h1 : tg a = 1
    · have e1 : ¬ b_tagged (nI a).toNatClampNeg = 0 := by rw [nI_clamp (by omega), hY.2.2.2.1, h1]; decide
      have e2 : ¬ b_tags (nI a).toNatClampNeg = t := by
        rw [nI_clamp (by omega)]
        exact fun z => hn ⟨h1, z⟩
      exact br_f e1 (And.intro hi (br_f e2 (nm_r (nI_1 v) J2)))
    · have e1 : b_tagged (nI a).toNatClampNeg = 0 := by
        have := ht a
        rw [nI_clamp (by omega), hY.2.2.2.1, show tg a = 0 from by omega]
        exact nI_0
      exact br_t e1 (nm_r (nI_1 v) J2)
theorem dr_y38w {post : Int32 → Prop} {J : Int32 → Int32 → Prop} {t s : Int32} {a : Nat} (ha : a < 48) (hY : dr_Y E op gn vn tg nd g_records g_open g_allGroups g_allValues b_noted b_groupsOf b_tagged b_valuesOf) (hv4 : vn a ≤ 4) (h1 : tg a = 1) (h2 : b_tags a = t) (K : J (dr_vs (fun j => b_values (4 * a + j)) s (vn a)) (nI (a + 1))) : ∀ d n v, v + d = 4 → d < n → wY_sumByTag_38 post J t (nI a) 1 g_records g_open g_allGroups g_allValues b_noted b_notes b_groupsOf b_tagged b_tags b_valuesOf b_values n (dr_vs (fun j => b_values (4 * a + j)) s (if v < vn a then v else vn a)) (nI v) := by
  intro d
  induction d with
  | zero =>
    intro n v e h
    obtain ⟨n, rfl⟩ : ∃ m, n = m + 1 := ⟨n - 1, by omega⟩
    have e' : v = 4 := by omega
    rw [e', if_neg (by omega)]
    exact br_t (by decide) (nm_r (nI_1 a) K)
  | succ d ih =>
    intro n v e h
    obtain ⟨n, rfl⟩ : ∃ m, n = m + 1 := ⟨n - 1, by omega⟩
    have J2 := ih n (v + 1) (by omega) (by omega)
    have hi : vp_in (nI a) 48 := vp_in_nI ha (by omega)
    have e1 : ¬ b_tagged (nI a).toNatClampNeg = 0 := by rw [nI_clamp (by omega), hY.2.2.2.1, h1]; decide
    have e2 : b_tags (nI a).toNatClampNeg = t := by rw [nI_clamp (by omega)]; exact h2
    have e3 : b_valuesOf (nI a).toNatClampNeg = nI (vn a) := by rw [nI_clamp (by omega)]; exact hY.2.2.2.2 a
    refine br_f (nI_ge (b := 4) (by omega) (by omega)) (br_f (by decide) (And.intro hi (br_f e1 (And.intro hi (br_t e2 (And.intro hi ?_))))))
    by_cases h3 : v < vn a
    · have e4 : ¬ b_valuesOf (nI a).toNatClampNeg ≤ nI v := by rw [e3]; exact nI_ge h3 (by omega)
      have e5 : 4 * nI a + nI v = nI (4 * a + v) := by
        rw [← nI_add, ← pk_mul]
        rfl
      have e6 : vp_in (4 * nI a + nI v) 192 := by rw [e5]; exact vp_in_nI (by omega) (by omega)
      have e7 : dr_vs (fun j => b_values (4 * a + j)) s v + b_values (4 * nI a + nI v).toNatClampNeg = dr_vs (fun j => b_values (4 * a + j)) s (if v + 1 < vn a then v + 1 else vn a) := by
        rw [e5, nI_clamp (by omega), show (if v + 1 < vn a then v + 1 else vn a) = v + 1 from by split <;> omega, dr_vs_s]
      rw [if_pos h3]
      exact br_f e4 (And.intro e6 (nm_r e7 (nm_r (nI_1 v) J2)))
    · have e4 : b_valuesOf (nI a).toNatClampNeg ≤ nI v := by rw [e3]; exact nI_le (by omega) (by omega)
      rw [if_neg (by omega)] at J2
      rw [if_neg h3]
      exact br_t e4 (nm_r (nI_1 v) J2)
theorem dr_ysl {post : Int32 → Prop} {t : Int32} (hG : dr_G E op gn vn tg nd) (hY : dr_Y E op gn vn tg nd g_records g_open g_allGroups g_allValues b_noted b_groupsOf b_tagged b_valuesOf) (hp : post (dr_ps E vn tg b_tags b_values t (4 * E))) : ∀ d n a, a + d = 4 * E → d < n → wY_sumByTag_4 post t g_records g_open g_allGroups g_allValues b_noted b_notes b_groupsOf b_tagged b_tags b_valuesOf b_values n (dr_ps E vn tg b_tags b_values t a) (nI a) := by
  have hE := dr_G_E hG
  have e4 : 4 * nI E = nI (4 * E) := pk_mul 4 E
  intro d
  induction d with
  | zero =>
    intro n a e h
    obtain ⟨n, rfl⟩ : ∃ m, n = m + 1 := ⟨n - 1, by omega⟩
    have e' : a = 4 * E := by omega
    rw [wY_sumByTag_4]
    refine dr_ye hG hY ?_
    refine br_t ?_ ?_
    · rw [e4, e']
      exact nI_le (Nat.le_refl _) (by omega)
    · rw [e']
      exact hp
  | succ d ih =>
    intro n a e h
    obtain ⟨n, rfl⟩ : ∃ m, n = m + 1 := ⟨n - 1, by omega⟩
    have J := ih n (a + 1) (by omega) (by omega)
    have ed : nI a / 4 = nI (a / 4) := pk_div (d := 4) (by omega) (by omega) (by omega)
    have em : nI a - nI a / 4 * 4 = nI (a % 4) := pk_rem (d := 4) (by omega) (by omega) (by omega)
    have hi : vp_in (nI a / 4) 12 := by rw [ed]; exact vp_in_nI (by omega) (by omega)
    have eg : b_groupsOf (nI a / 4).toNatClampNeg = nI (gn (a / 4)) := by rw [ed, nI_clamp (by omega)]; exact hY.2.2.1 _
    have hg := dr_G_g hG (a / 4)
    rw [wY_sumByTag_4]
    refine dr_ye hG hY ?_
    refine br_f ?_ (And.intro (by decide) (And.intro (by decide) (And.intro hi ?_)))
    · rw [e4]
      exact nI_ge (by omega) (by omega)
    · by_cases hw : tg a = 1 ∧ b_tags a = t
      · have hr := dr_G_tr hG a (by omega)
        rw [dr_ps_y ⟨hw.1, hw.2, by omega⟩] at J
        have e1 : ¬ b_groupsOf (nI a / 4).toNatClampNeg ≤ nI a - nI a / 4 * 4 := by
          rw [eg, em]
          exact nI_ge hr (by omega)
        have K := dr_y38w (b_notes := b_notes) (post := post) (by omega) hY (dr_G_v hG a) hw.1 hw.2 J 4 5 0 rfl (by omega)
        have e0 : dr_vs (fun j => b_values (4 * a + j)) (dr_ps E vn tg b_tags b_values t a) (if 0 < vn a then 0 else vn a) = dr_ps E vn tg b_tags b_values t a := by
          rw [show (if 0 < vn a then 0 else vn a) = 0 from by split <;> omega]
          rfl
        rw [e0] at K
        exact br_f e1 (Exists.intro 5 K)
      · rw [dr_ps_n (fun z => hw ⟨z.1, z.2.1⟩)] at J
        exact br_c (fun _ => Exists.intro 5 (dr_y38n (by omega) hY (dr_G_t hG) hw J 4 5 0 rfl (by omega))) (fun _ => Exists.intro 5 (dr_y38n (by omega) hY (dr_G_t hG) hw J 4 5 0 rfl (by omega)))
theorem dr_ysum {post : Int32 → Prop} {t : Int32} (hG : dr_G E op gn vn tg nd) (hY : dr_Y E op gn vn tg nd g_records g_open g_allGroups g_allValues b_noted b_groupsOf b_tagged b_valuesOf) (hp : post (dr_ps E vn tg b_tags b_values t (4 * E))) : wpY_sumByTag post (g_records, g_open, g_allGroups, g_allValues, b_noted, b_notes, b_groupsOf, b_tagged, b_tags, b_valuesOf, b_values) t :=
  Exists.intro (4 * E + 1) (dr_ysl hG hY hp (4 * E) (4 * E + 1) 0 (by omega) (by omega))
theorem dr_yh {post : Int32 → Prop} {lo hi : Int32} {r : Nat} (hG : dr_G E op gn vn tg nd) (hY : dr_Y E op gn vn tg nd g_records g_open g_allGroups g_allValues b_noted b_groupsOf b_tagged b_valuesOf) (hr : r < 12) : ∀ d n i, i + d = 16 → d < n → ((∃ j, i ≤ j ∧ j < 16 ∧ dr_hk lo hi vn b_values (16 * r + j)) → post 1) → ((¬ ∃ j, i ≤ j ∧ j < 16 ∧ dr_hk lo hi vn b_values (16 * r + j)) → post 0) → wY_holds_3 post (nI r) lo hi g_records g_open g_allGroups g_allValues b_noted b_notes b_groupsOf b_tagged b_tags b_valuesOf b_values n (nI i) := by
  intro d
  induction d with
  | zero =>
    intro n i e h h1 h0
    obtain ⟨n, rfl⟩ : ∃ m, n = m + 1 := ⟨n - 1, by omega⟩
    have e' : i = 16 := by omega
    subst e'
    refine br_t (by decide) (h0 ?_)
    intro z
    obtain ⟨j, z1, z2, _⟩ := z
    omega
  | succ d ih =>
    intro n i e h h1 h0
    obtain ⟨n, rfl⟩ : ∃ m, n = m + 1 := ⟨n - 1, by omega⟩
    have hg := dr_G_g hG r
    have J : ¬ dr_hk lo hi vn b_values (16 * r + i) → wY_holds_3 post (nI r) lo hi g_records g_open g_allGroups g_allValues b_noted b_notes b_groupsOf b_tagged b_tags b_valuesOf b_values n (nI (i + 1)) := by
      intro hk
      refine ih n (i + 1) (by omega) (by omega) (fun z => h1 ?_) (fun z => h0 ?_)
      · obtain ⟨j, z1, z2, z3⟩ := z
        exact ⟨j, by omega, z2, z3⟩
      · intro y
        obtain ⟨j, z1, z2, z3⟩ := y
        by_cases ej : j = i
        · rw [ej] at z3
          exact hk z3
        · exact z ⟨j, by omega, z2, z3⟩
    have ed : nI i / 4 = nI (i / 4) := pk_div (d := 4) (by omega) (by omega) (by omega)
    have em : nI i - nI i / 4 * 4 = nI (i % 4) := pk_rem (d := 4) (by omega) (by omega) (by omega)
    have ea : 4 * nI r + nI i / 4 = nI (4 * r + i / 4) := by
      rw [ed, ← nI_add, ← pk_mul]
      rfl
    have ek : 16 * nI r + nI i = nI (16 * r + i) := by
      rw [← nI_add, ← pk_mul]
      rfl
    have hi1 : vp_in (nI r) 12 := vp_in_nI hr (by omega)
    have hi2 : vp_in (4 * nI r + nI i / 4) 48 := by rw [ea]; exact vp_in_nI (by omega) (by omega)
    have hi3 : vp_in (16 * nI r + nI i) 192 := by rw [ek]; exact vp_in_nI (by omega) (by omega)
    have eg : b_groupsOf (nI r).toNatClampNeg = nI (gn r) := by rw [nI_clamp (by omega)]; exact hY.2.2.1 _
    have hv := dr_G_v hG (4 * r + i / 4)
    have hvr := dr_G_vr hG (4 * r + i / 4)
    rw [show (4 * r + i / 4) / 4 = r from by omega, show (4 * r + i / 4) % 4 = i / 4 from by omega] at hvr
    have evn : b_valuesOf (4 * nI r + nI i / 4).toNatClampNeg = nI (vn (4 * r + i / 4)) := by rw [ea, nI_clamp (by omega)]; exact hY.2.2.2.2 _
    have K0 : ¬ dr_hk lo hi vn b_values (16 * r + i) → wY_holds_48 post (wY_holds_3 post (nI r) lo hi g_records g_open g_allGroups g_allValues b_noted b_notes b_groupsOf b_tagged b_tags b_valuesOf b_values n) (nI r) lo hi (nI i) 0 g_records g_open g_allGroups g_allValues b_noted b_notes b_groupsOf b_tagged b_tags b_valuesOf b_values :=
      fun hk => And.intro hi3 (nm_e (br_t rfl (nm_r (nI_1 i) (J hk))))
    refine br_f (nI_ge (b := 16) (by omega) (by omega)) (And.intro (by decide) (And.intro hi1 ?_))
    by_cases hj : i % 4 < vn (4 * r + i / 4)
    · have e1 : ¬ b_groupsOf (nI r).toNatClampNeg ≤ nI i / 4 := by
        rw [eg, ed]
        exact nI_ge (hvr (by omega)) (by omega)
      have e2 : ¬ b_valuesOf (4 * nI r + nI i / 4).toNatClampNeg ≤ nI i - nI i / 4 * 4 := by
        rw [evn, em]
        exact nI_ge hj (by omega)
      have e3 : b_values (16 * nI r + nI i).toNatClampNeg = b_values (16 * r + i) := by rw [ek, nI_clamp (by omega)]
      have ej : (16 * r + i) % 4 < vn ((16 * r + i) / 4) := by
        rw [show (16 * r + i) / 4 = 4 * r + i / 4 from by omega]
        omega
      refine br_f e1 (And.intro (by decide) (And.intro (by decide) (And.intro hi2 (br_f e2 ?_))))
      refine And.intro hi3 (nm_r e3 (br_f (by decide) ?_))
      refine br_c (fun h2 => nm_r (nI_1 i) (J (fun z => z.2.1 h2))) (fun h2 => ?_)
      refine br_c (fun h3 => nm_r (nI_1 i) (J (fun z => z.2.2 h3))) (fun h3 => ?_)
      exact h1 ⟨i, Nat.le_refl _, by omega, ej, h2, h3⟩
    · have hk : ¬ dr_hk lo hi vn b_values (16 * r + i) := by
        intro z
        have z1 := z.1
        rw [show (16 * r + i) / 4 = 4 * r + i / 4 from by omega] at z1
        omega
      refine br_c (fun _ => K0 hk) (fun _ => And.intro (by decide) (And.intro (by decide) (And.intro hi2 (br_t ?_ (K0 hk)))))
      rw [evn, em]
      exact nI_le (by omega) (by omega)
theorem dr_yrl {post : Int32 → Prop} {lo hi : Int32} (hG : dr_G E op gn vn tg nd) (hY : dr_Y E op gn vn tg nd g_records g_open g_allGroups g_allValues b_noted b_groupsOf b_tagged b_valuesOf) (hp : post (nI (dr_rw E lo hi vn b_values (16 * E)).1)) : ∀ d n r, r + d = E → d < n → wY_recordsWith_5 post lo hi g_records g_open g_allGroups g_allValues b_noted b_notes b_groupsOf b_tagged b_tags b_valuesOf b_values n (nI (dr_rw E lo hi vn b_values (16 * r)).1) (nI r) := by
  have hE := dr_G_E hG
  intro d
  induction d with
  | zero =>
    intro n r e h
    obtain ⟨n, rfl⟩ : ∃ m, n = m + 1 := ⟨n - 1, by omega⟩
    have e' : r = E := by omega
    subst e'
    rw [wY_recordsWith_5]
    refine dr_ye hG hY ?_
    exact br_t (nI_le (Nat.le_refl _) (by omega)) hp
  | succ d ih =>
    intro n r e h
    obtain ⟨n, rfl⟩ : ∃ m, n = m + 1 := ⟨n - 1, by omega⟩
    have J := ih n (r + 1) (by omega) (by omega)
    rw [show 16 * (r + 1) = 16 * r + 16 from by omega] at J
    rw [wY_recordsWith_5]
    refine dr_ye hG hY ?_
    refine br_f (nI_ge (by omega) (by omega)) ?_
    have h12 : r < 12 := by omega
    have hR := dr_rw_r (E := E) (lo := lo) (hi := hi) (vn := vn) (b_values := b_values) (r := r) (by omega) 16 (Nat.le_refl _)
    refine Exists.intro 17 (dr_yh hG hY h12 16 17 0 rfl (Nat.lt_succ_self 16) (fun z => ?_) (fun z => ?_))
    · obtain ⟨j, z1, z2, z3⟩ := z
      rw [hR.1 ⟨j, z2, z3⟩] at J
      exact br_f (by decide) (nm_r (nI_1 _) (nm_r (nI_1 r) J))
    · rw [hR.2 (fun y => by obtain ⟨j, z1, z2⟩ := y; exact z ⟨j, Nat.zero_le _, z1, z2⟩)] at J
      exact br_t rfl (nm_r (nI_1 r) J)
theorem dr_yrec {post : Int32 → Prop} {lo hi : Int32} (hG : dr_G E op gn vn tg nd) (hY : dr_Y E op gn vn tg nd g_records g_open g_allGroups g_allValues b_noted b_groupsOf b_tagged b_valuesOf) (hp : post (nI (dr_rw E lo hi vn b_values (16 * E)).1)) : wpY_recordsWith post (g_records, g_open, g_allGroups, g_allValues, b_noted, b_notes, b_groupsOf, b_tagged, b_tags, b_valuesOf, b_values) lo hi :=
  Exists.intro (E + 1) (dr_yrl hG hY hp E (E + 1) 0 (by omega) (by omega))
end
end
section
/-! the component: recordsWith -/
section
variable {f_isOpen f_begun f_ended f_noteCount f_tagEntries f_tagCount f_valueEntries f_valueCount f_openGroups f_openValues f_groupCount f_found f_passed : Int32} {a_noteThere a_notes a_tagAgain a_tagDepth a_tags a_valueAgain a_valueDepth a_values : Nat → Int32}
section
variable {E : Nat} {gn vn : Nat → Nat} {m M : Nat} {b_values : Nat → Int32} {lo hi : Int32}
theorem dr_r40 {post : Int32 → Prop} {J : Int32 → Int32 → Int32 → Int32 → Int32 → Prop} {z0 z1 : Int32} {a j : Nat} (hV : dr_VC m gn vn a_valueAgain a_valueDepth) (hb : dr_sm (dr_wV gn vn) m ≤ 112) (hm : m ≤ M) (hM : M ≤ 48) (hvb : dr_sm vn M ≤ 60) (hv4 : ∀ a, vn a ≤ 4) (hL : ∀ a j, j < vn a → a_values (dr_sm vn a + j) = b_values (4 * a + j)) (hEn : f_ended = nI E) (hE12 : E ≤ 12) (ha : a < m) (hj : j < vn a) (ez : z1 + z0 = nI (a / 4)) (K : J (nI (dr_rw E lo hi vn b_values (4 * a + j + 1)).1) (nI (a / 4)) (nI (dr_sm vn a + j + 1)) (nI (dr_rw E lo hi vn b_values (4 * a + j + 1)).2 - 1) (nI (dr_sm (dr_wV gn vn) a + j + 1))) : wX_recordsWith_40 post J lo hi (nI (dr_rw E lo hi vn b_values (4 * a + j)).1) (nI (dr_sm vn a + j)) (nI (dr_rw E lo hi vn b_values (4 * a + j)).2 - 1) (nI (dr_sm (dr_wV gn vn) a + j)) z0 z1 f_isOpen f_begun f_ended f_noteCount f_tagEntries f_tagCount f_valueEntries f_valueCount f_openGroups f_openValues f_groupCount f_found f_passed a_noteThere a_notes a_tagAgain a_tagDepth a_tags a_valueAgain a_valueDepth a_values := by
  have h0 : 0 < vn a := by omega
  have h4 := hv4 a
  have hwv : dr_wV gn vn a = vn a := dr_wV_v h0
  have hs := dr_sm_al (dr_wV gn vn) ha
  have hs2 := dr_sm_al vn (a := a) (b := M) (by omega)
  have hi1 : vp_in (nI (dr_sm (dr_wV gn vn) a + j)) 112 := vp_in_nI (by omega) (by omega)
  have hi2 : vp_in (nI (dr_sm vn a + j)) 60 := vp_in_nI (by omega) (by omega)
  have hD : a_valueDepth (nI (dr_sm (dr_wV gn vn) a + j)).toNatClampNeg = 2 := by
    rw [nI_clamp (by omega), (hV a ha j (by omega)).2]
    exact dr_vd_2 h0
  have ev : a_values (nI (dr_sm vn a + j)).toNatClampNeg = b_values (4 * a + j) := by
    rw [nI_clamp (by omega)]
    exact hL a j hj
  have e16 : (4 * a + j) / 16 = a / 4 := by omega
  have hLb := (dr_rw_b (E := E) (lo := lo) (hi := hi) (vn := vn) (b_values := b_values) (4 * a + j)).1
  have hq := dr_eqm (x := a / 4) (L := (dr_rw E lo hi vn b_values (4 * a + j)).2) (by omega) (by omega)
  have hok : (4 * a + j) % 4 < vn ((4 * a + j) / 4) := by
    rw [show (4 * a + j) / 4 = a from by omega]
    omega
  have Kn : ¬ (dr_hk lo hi vn b_values (4 * a + j) ∧ (4 * a + j) / 16 < E ∧ ¬ (dr_rw E lo hi vn b_values (4 * a + j)).2 = (4 * a + j) / 16 + 1) → J (nI (dr_rw E lo hi vn b_values (4 * a + j)).1) (nI (a / 4)) (nI (dr_sm vn a + j + 1)) (nI (dr_rw E lo hi vn b_values (4 * a + j)).2 - 1) (nI (dr_sm (dr_wV gn vn) a + j + 1)) := by
    intro hn
    rw [dr_rw_n hn] at K
    exact K
  refine nm_r ez (And.intro hi1 (br_t hD (And.intro hi2 (nm_r ev (nm_r (nI_1 _) ?_)))))
  refine br_c (fun h1 => nm_r (nI_1 _) (Kn (fun z => z.1.2.1 h1))) (fun h1 => ?_)
  refine br_c (fun h2 => nm_r (nI_1 _) (Kn (fun z => z.1.2.2 h2))) (fun h2 => ?_)
  refine br_c (fun h3 => nm_r (nI_1 _) (Kn (fun z => z.2.2 ?_))) (fun h3 => ?_)
  · rw [e16]
    exact hq.mp h3
  · have h3' : ¬ (dr_rw E lo hi vn b_values (4 * a + j)).2 = (4 * a + j) / 16 + 1 := by
      rw [e16]
      exact fun z => h3 (hq.mpr z)
    by_cases h5 : a / 4 < E
    · have e1 : ¬ f_ended ≤ nI (a / 4) := by
        rw [hEn]
        exact nI_ge h5 (by omega)
      rw [dr_rw_y ⟨hok, h1, h2⟩ (by omega) h3'] at K
      dsimp only at K
      rw [e16, nI_pred] at K
      exact br_f e1 (nm_r (nI_1 _) (nm_r (nI_1 _) K))
    · have e1 : f_ended ≤ nI (a / 4) := by
        rw [hEn]
        exact nI_le (by omega) (by omega)
      exact br_t e1 (nm_r (nI_1 _) (Kn (fun z => by have := z.2.1; omega)))
theorem dr_r40z {post : Int32 → Prop} {J : Int32 → Int32 → Int32 → Int32 → Int32 → Prop} {z0 z1 x3 x5 x6 : Int32} {a : Nat} (hV : dr_VC m gn vn a_valueAgain a_valueDepth) (hb : dr_sm (dr_wV gn vn) m ≤ 112) (ha : a < m) (hw : 0 < dr_wV gn vn a) (h0 : ¬ 0 < vn a) (ez : z1 + z0 = nI (a / 4)) (K : J x3 (nI (a / 4)) x5 x6 (nI (dr_sm (dr_wV gn vn) a + 1))) : wX_recordsWith_40 post J lo hi x3 x5 x6 (nI (dr_sm (dr_wV gn vn) a)) z0 z1 f_isOpen f_begun f_ended f_noteCount f_tagEntries f_tagCount f_valueEntries f_valueCount f_openGroups f_openValues f_groupCount f_found f_passed a_noteThere a_notes a_tagAgain a_tagDepth a_tags a_valueAgain a_valueDepth a_values := by
  have hs := dr_sm_al (dr_wV gn vn) ha
  have hi : vp_in (nI (dr_sm (dr_wV gn vn) a)) 112 := vp_in_nI (by omega) (by omega)
  have hD : ¬ a_valueDepth (nI (dr_sm (dr_wV gn vn) a)).toNatClampNeg = 2 := by
    have h1 := (hV a ha 0 hw).2
    rw [Nat.add_zero] at h1
    rw [nI_clamp (by omega), h1]
    exact dr_2 (dr_vd_0 h0)
  exact nm_r ez (And.intro hi (br_f hD (nm_r (nI_1 _) K)))
theorem dr_ri {post : Int32 → Prop} {a B : Nat} (hV : dr_VC m gn vn a_valueAgain a_valueDepth) (hE : f_valueEntries = nI (dr_sm (dr_wV gn vn) m)) (hb : dr_sm (dr_wV gn vn) m ≤ 112) (hm : m ≤ M) (hM : M ≤ 48) (hvb : dr_sm vn M ≤ 60) (hv4 : ∀ a, vn a ≤ 4) (hL : ∀ a j, j < vn a → a_values (dr_sm vn a + j) = b_values (4 * a + j)) (hEn : f_ended = nI E) (hE12 : E ≤ 12) (ha : a < m) (hB : dr_sm (dr_wV gn vn) (a + 1) ≤ B) (K : ∀ n, B - dr_sm (dr_wV gn vn) (a + 1) < n → wX_recordsWith_14 post lo hi f_isOpen f_begun f_ended f_noteCount f_tagEntries f_tagCount f_valueEntries f_valueCount f_openGroups f_openValues f_groupCount f_found f_passed a_noteThere a_notes a_tagAgain a_tagDepth a_tags a_valueAgain a_valueDepth a_values n (nI (dr_rw E lo hi vn b_values (4 * a + vn a)).1) (nI (a / 4)) (nI (dr_sm vn (a + 1))) (nI (dr_rw E lo hi vn b_values (4 * a + vn a)).2 - 1) (nI (dr_sm (dr_wV gn vn) (a + 1)))) : ∀ d j n, j + d = dr_wV gn vn a → 0 < j → B - (dr_sm (dr_wV gn vn) a + j) < n → wX_recordsWith_14 post lo hi f_isOpen f_begun f_ended f_noteCount f_tagEntries f_tagCount f_valueEntries f_valueCount f_openGroups f_openValues f_groupCount f_found f_passed a_noteThere a_notes a_tagAgain a_tagDepth a_tags a_valueAgain a_valueDepth a_values n (nI (dr_rw E lo hi vn b_values (4 * a + (if 0 < vn a then j else 0))).1) (nI (a / 4)) (nI (dr_sm vn a + (if 0 < vn a then j else 0))) (nI (dr_rw E lo hi vn b_values (4 * a + (if 0 < vn a then j else 0))).2 - 1) (nI (dr_sm (dr_wV gn vn) a + j)) := by
  intro d
  induction d with
  | zero =>
    intro j n e hj hn
    have e' : j = dr_wV gn vn a := by omega
    have hK := K n (by rw [dr_sm_s]; omega)
    rw [dr_sm_s, dr_sm_s] at hK
    rw [e']
    have e2 : (if 0 < vn a then dr_wV gn vn a else 0) = vn a := by
      by_cases h : 0 < vn a
      · rw [if_pos h, dr_wV_v h]
      · rw [if_neg h]
        omega
    rw [e2]
    exact hK
  | succ d ih =>
    intro j n e hj hn
    rw [dr_sm_s] at hB
    have hv : 0 < vn a := by
      by_cases h : 0 < vn a
      · exact h
      · have h1 := dr_wT_1 gn a
        rw [dr_wV_0 h] at e
        omega
    have hwv : dr_wV gn vn a = vn a := dr_wV_v hv
    have hs := dr_sm_al (dr_wV gn vn) ha
    obtain ⟨n, rfl⟩ : ∃ m, n = m + 1 := ⟨n - 1, by omega⟩
    have J := ih (j + 1) n (by omega) (by omega) (by omega)
    rw [if_pos hv] at J ⊢
    have h1 : ¬ f_valueEntries ≤ nI (dr_sm (dr_wV gn vn) a + j) := by rw [hE]; exact nI_ge (by omega) (by omega)
    have hi : vp_in (nI (dr_sm (dr_wV gn vn) a + j)) 112 := vp_in_nI (by omega) (by omega)
    have hA : ¬ a_valueAgain (nI (dr_sm (dr_wV gn vn) a + j)).toNatClampNeg = 0 := by
      rw [nI_clamp (by omega), (hV a ha j (by omega)).1, dr_va_1 hj]
      decide
    exact br_f h1 (And.intro hi (br_f hA (dr_r40 hV hb hm hM hvb hv4 hL hEn hE12 ha (by omega) (Int32.add_zero _) J)))
theorem dr_xrl {post : Int32 → Prop} (hV : dr_VC m gn vn a_valueAgain a_valueDepth) (hE : f_valueEntries = nI (dr_sm (dr_wV gn vn) m)) (hb : dr_sm (dr_wV gn vn) m ≤ 112) (hm : m ≤ M) (hM : M ≤ 48) (hvb : dr_sm vn M ≤ 60) (hv4 : ∀ a, vn a ≤ 4) (hv : ∀ a, 0 < vn a → a % 4 < gn (a / 4)) (hL : ∀ a j, j < vn a → a_values (dr_sm vn a + j) = b_values (4 * a + j)) (hEn : f_ended = nI E) (hE12 : E ≤ 12) (hp : post (nI (dr_rw E lo hi vn b_values (4 * m)).1)) : ∀ (d a n : Nat), a + d = m → dr_sm (dr_wV gn vn) m - dr_sm (dr_wV gn vn) a < n → wX_recordsWith_14 post lo hi f_isOpen f_begun f_ended f_noteCount f_tagEntries f_tagCount f_valueEntries f_valueCount f_openGroups f_openValues f_groupCount f_found f_passed a_noteThere a_notes a_tagAgain a_tagDepth a_tags a_valueAgain a_valueDepth a_values n (nI (dr_rw E lo hi vn b_values (4 * a)).1) (nI ((a + 3) / 4) - 1) (nI (dr_sm vn a)) (nI (dr_rw E lo hi vn b_values (4 * a)).2 - 1) (nI (dr_sm (dr_wV gn vn) a)) := by
  intro d
  induction d with
  | zero =>
    intro a n e hn
    have e' : a = m := by omega
    subst e'
    obtain ⟨n, rfl⟩ : ∃ m, n = m + 1 := ⟨n - 1, by omega⟩
    have h1 : f_valueEntries ≤ nI (dr_sm (dr_wV gn vn) a) := by
      rw [hE]
      exact nI_le (Nat.le_refl _) (by omega)
    exact br_t h1 hp
  | succ d ih =>
    intro a n e hn
    by_cases hwt : dr_wT gn a = 1
    · have hwv : 0 < dr_wV gn vn a := (dr_wV_w hv).mpr hwt
      have ha : a < m := by omega
      have hs := dr_sm_al (dr_wV gn vn) ha
      obtain ⟨n, rfl⟩ : ∃ m, n = m + 1 := ⟨n - 1, by omega⟩
      have J : ∀ n, dr_sm (dr_wV gn vn) m - dr_sm (dr_wV gn vn) (a + 1) < n → wX_recordsWith_14 post lo hi f_isOpen f_begun f_ended f_noteCount f_tagEntries f_tagCount f_valueEntries f_valueCount f_openGroups f_openValues f_groupCount f_found f_passed a_noteThere a_notes a_tagAgain a_tagDepth a_tags a_valueAgain a_valueDepth a_values n (nI (dr_rw E lo hi vn b_values (4 * a + vn a)).1) (nI (a / 4)) (nI (dr_sm vn (a + 1))) (nI (dr_rw E lo hi vn b_values (4 * a + vn a)).2 - 1) (nI (dr_sm (dr_wV gn vn) (a + 1))) := by
        intro n hn
        have J := ih (a + 1) n (by omega) hn
        rw [dr_r2, dr_rw_a (hv4 a)] at J
        exact J
      have J2 := dr_ri hV hE hb hm hM hvb hv4 hL hEn hE12 ha (dr_sm_le _ (by omega)) J (dr_wV gn vn a - 1) 1 n (by omega) (by omega) (by omega)
      have h1 : ¬ f_valueEntries ≤ nI (dr_sm (dr_wV gn vn) a) := by rw [hE]; exact nI_ge (by omega) (by omega)
      have hi1 : vp_in (nI (dr_sm (dr_wV gn vn) a)) 112 := vp_in_nI (by omega) (by omega)
      have hA : a_valueAgain (nI (dr_sm (dr_wV gn vn) a)).toNatClampNeg = nI (dr_ag a) := by rw [nI_clamp (by omega)]; exact (hV a ha 0 hwv).1
      have K : ∀ z0 : Int32, nI ((a + 3) / 4) - 1 + z0 = nI (a / 4) → wX_recordsWith_40 post (wX_recordsWith_14 post lo hi f_isOpen f_begun f_ended f_noteCount f_tagEntries f_tagCount f_valueEntries f_valueCount f_openGroups f_openValues f_groupCount f_found f_passed a_noteThere a_notes a_tagAgain a_tagDepth a_tags a_valueAgain a_valueDepth a_values n) lo hi (nI (dr_rw E lo hi vn b_values (4 * a)).1) (nI (dr_sm vn a)) (nI (dr_rw E lo hi vn b_values (4 * a)).2 - 1) (nI (dr_sm (dr_wV gn vn) a)) z0 (nI ((a + 3) / 4) - 1) f_isOpen f_begun f_ended f_noteCount f_tagEntries f_tagCount f_valueEntries f_valueCount f_openGroups f_openValues f_groupCount f_found f_passed a_noteThere a_notes a_tagAgain a_tagDepth a_tags a_valueAgain a_valueDepth a_values := by
        intro z0 ez
        by_cases h0 : 0 < vn a
        · rw [if_pos h0] at J2
          exact dr_r40 (j := 0) hV hb hm hM hvb hv4 hL hEn hE12 ha h0 ez J2
        · rw [if_neg h0] at J2
          exact dr_r40z hV hb ha hwv h0 ez J2
      refine br_f h1 (And.intro hi1 ?_)
      by_cases h0 : a % 4 = 0
      · have e : a_valueAgain (nI (dr_sm (dr_wV gn vn) a)).toNatClampNeg = 0 := by rw [hA]; exact dr_ag_0 h0
        exact br_t e (K 1 (dr_r1 h0))
      · have e : ¬ a_valueAgain (nI (dr_sm (dr_wV gn vn) a)).toNatClampNeg = 0 := by rw [hA, dr_ag_1 h0]; decide
        exact br_f e (K 0 (dr_r0 h0))
    · have h1 := dr_wT_e hwt
      have h0 : dr_wV gn vn a = 0 := by
        have := dr_wV_w hv (a := a)
        omega
      have h2 : vn a = 0 := by
        by_cases z : 0 < vn a
        · have := hv a z
          omega
        · omega
      have J := ih (a + 1) n (by omega) (by rw [dr_sm_s, h0]; exact hn)
      rw [dr_rw_a (hv4 a), dr_sm_s, dr_sm_s, h0, h2, show (a + 1 + 3) / 4 = (a + 3) / 4 from by omega] at J
      exact J
end
section
variable {E op : Nat} {gn vn tg nd : Nat → Nat} {b_notes b_tags b_values : Nat → Int32}
theorem dr_xrec {post : Int32 → Prop} {lo hi : Int32} (hG : dr_G E op gn vn tg nd) (hX : dr_X E op gn vn tg nd f_isOpen f_begun f_ended f_noteCount f_tagEntries f_tagCount f_valueEntries f_valueCount f_openGroups f_openValues f_groupCount a_noteThere a_tagAgain a_tagDepth a_valueAgain a_valueDepth) (hL : dr_L vn tg nd a_notes a_tags a_values b_notes b_tags b_values) (hp : post (nI (dr_rw E lo hi vn b_values (16 * E)).1)) : wpX_recordsWith post (f_isOpen, f_begun, f_ended, f_noteCount, f_tagEntries, f_tagCount, f_valueEntries, f_valueCount, f_openGroups, f_openValues, f_groupCount, f_found, f_passed, a_noteThere, a_notes, a_tagAgain, a_tagDepth, a_tags, a_valueAgain, a_valueDepth, a_values) lo hi := by
  have hE := dr_G_E hG
  have h3 : 4 * E ≤ dr_Mv E gn vn := dr_Mv_ge
  have hp' : post (nI (dr_rw E lo hi vn b_values (4 * dr_Mv E gn vn)).1) := by
    have e := dr_rw_E (E := E) (lo := lo) (hi := hi) (vn := vn) (b_values := b_values) (4 * dr_Mv E gn vn - 16 * E)
    rw [show 16 * E + (4 * dr_Mv E gn vn - 16 * E) = 4 * dr_Mv E gn vn from by omega] at e
    rw [e]
    exact hp
  have h := dr_xrl (f_isOpen := f_isOpen) (f_begun := f_begun) (f_ended := f_ended) (f_noteCount := f_noteCount) (f_tagEntries := f_tagEntries) (f_tagCount := f_tagCount) (f_valueEntries := f_valueEntries) (f_valueCount := f_valueCount) (f_openGroups := f_openGroups) (f_openValues := f_openValues) (f_groupCount := f_groupCount) (f_found := f_found) (f_passed := f_passed) (a_noteThere := a_noteThere) (a_notes := a_notes) (a_tagAgain := a_tagAgain) (a_tagDepth := a_tagDepth) (a_tags := a_tags) (a_valueAgain := a_valueAgain) (a_valueDepth := a_valueDepth) (a_values := a_values) hX.2.2.2.2.2.2 hX.2.2.1.1 (dr_Mv_V hG) dr_Mv_le (dr_M_48 hG) (dr_G_60 hG) (dr_G_v hG) (dr_G_vr hG) hL.2.2 hX.1.2.2.1 (by omega) hp' (dr_Mv E gn vn) 0 (dr_sm (dr_wV gn vn) (dr_Mv E gn vn) + 1) (by omega) (by omega)
  rw [dr_m1, show nI (dr_rw E lo hi vn b_values (4 * 0)).2 - 1 = -1 from by show nI 0 - 1 = -1; decide] at h
  exact Exists.intro _ h
end
end
end
section
/-! columns that grow -/
section
variable {m m' : Nat} {gn gn' vn vn' tg tg' : Nat → Nat} {tA tD : Nat → Int32} {p0 p1 : Int32}
theorem dr_TC_c (h : dr_TC m gn tg tA tD) (hw : ∀ a, a < m → dr_wT gn' a = dr_wT gn a) (hd : ∀ a, a < m → dr_td gn' tg' a = dr_td gn tg a) : dr_TC m gn' tg' tA tD := by
  intro a ha hwa
  rw [dr_sm_c a (fun i hi => hw i (by omega)), hd a ha]
  exact h a ha ((hw a ha).symm.trans hwa)
theorem dr_TC_add (h : dr_TC m gn tg tA tD) (hw : dr_wT gn m = 1) (e0 : p0 = nI (dr_ag m)) (e1 : p1 = nI (dr_td gn tg m)) : dr_TC (m + 1) gn tg (upd tA (dr_sm (dr_wT gn) m) p0) (upd tD (dr_sm (dr_wT gn) m) p1) := by
  intro a ha hwa
  by_cases e : a = m
  · subst e
    exact ⟨pk_us.trans e0, pk_us.trans e1⟩
  · have hs := dr_sm_al (dr_wT gn) (a := a) (b := m) (by omega)
    have hne : dr_sm (dr_wT gn) a ≠ dr_sm (dr_wT gn) m := by omega
    rw [pk_un hne, pk_un hne]
    exact h a (by omega) hwa
theorem dr_TC_sk (h : dr_TC m gn tg tA tD) (hz : ∀ a, m ≤ a → a < m' → dr_wT gn a = 0) : dr_TC m' gn tg tA tD := by
  intro a ha hwa
  by_cases e : a < m
  · exact h a e hwa
  · have := hz a (by omega) ha
    omega
theorem dr_VC_c (h : dr_VC m gn vn tA tD) (hw : ∀ a, a < m → dr_wV gn' vn' a = dr_wV gn vn a) (hd : ∀ a, a < m → dr_vd gn' vn' a = dr_vd gn vn a) : dr_VC m gn' vn' tA tD := by
  intro a ha j hj
  rw [dr_sm_c a (fun i hi => hw i (by omega)), hd a ha]
  rw [hw a ha] at hj
  exact h a ha j hj
theorem dr_VC_add (h : dr_VC m gn vn tA tD) (hw : dr_wV gn vn m = 1) (e0 : p0 = nI (dr_ag m)) (e1 : p1 = nI (dr_vd gn vn m)) : dr_VC (m + 1) gn vn (upd tA (dr_sm (dr_wV gn vn) m) p0) (upd tD (dr_sm (dr_wV gn vn) m) p1) := by
  intro a ha j hj
  by_cases e : a = m
  · subst e
    have ej : j = 0 := by omega
    subst ej
    exact ⟨pk_us.trans e0, pk_us.trans e1⟩
  · have hs := dr_sm_al (dr_wV gn vn) (a := a) (b := m) (by omega)
    have hne : dr_sm (dr_wV gn vn) a + j ≠ dr_sm (dr_wV gn vn) m := by omega
    rw [pk_un hne, pk_un hne]
    exact h a (by omega) j hj
theorem dr_VC_sk (h : dr_VC m gn vn tA tD) (hz : ∀ a, m ≤ a → a < m' → dr_wV gn vn a = 0) : dr_VC m' gn vn tA tD := by
  intro a ha j hj
  by_cases e : a < m
  · exact h a e j hj
  · have := hz a (by omega) ha
    omega
/-- one more value in the last slot m -/
theorem dr_VC_val (h : dr_VC (if vn m = 0 then m else m + 1) gn vn tA tD) : dr_VC (m + 1) gn (dr_up vn m (vn m + 1)) (upd tA (dr_sm (dr_wV gn vn) m + vn m) (nI (dr_va m (vn m)))) (upd tD (dr_sm (dr_wV gn vn) m + vn m) 2) := by
  have hw : ∀ a, a ≠ m → dr_wV gn (dr_up vn m (vn m + 1)) a = dr_wV gn vn a := by
    intro a ha
    unfold dr_wV
    rw [dr_un ha]
  have hd : ∀ a, a ≠ m → dr_vd gn (dr_up vn m (vn m + 1)) a = dr_vd gn vn a := by
    intro a ha
    unfold dr_vd
    rw [dr_un ha]
  intro a ha j hj
  rw [dr_sm_c a (fun i hi => hw i (by omega))]
  by_cases e : a = m
  · subst e
    rw [dr_wV_v (by rw [dr_us]; omega), dr_us] at hj
    have e2 : nI (dr_vd gn (dr_up vn a (vn a + 1)) a) = 2 := dr_vd_2 (by rw [dr_us]; omega)
    rw [e2]
    by_cases ej : j = vn a
    · subst ej
      exact ⟨pk_us, pk_us⟩
    · have hv : 0 < vn a := by omega
      have hne : dr_sm (dr_wV gn vn) a + j ≠ dr_sm (dr_wV gn vn) a + vn a := by omega
      rw [if_neg (by omega)] at h
      have h1 := h a (by omega) j (by rw [dr_wV_v hv]; omega)
      rw [dr_vd_2 hv] at h1
      rw [pk_un hne, pk_un hne]
      exact h1
  · rw [hw a e] at hj
    rw [hd a e]
    have hs := dr_sm_al (dr_wV gn vn) (a := a) (b := m) (by omega)
    have hne : dr_sm (dr_wV gn vn) a + j ≠ dr_sm (dr_wV gn vn) m + vn m := by omega
    rw [pk_un hne, pk_un hne]
    exact h a (by split <;> omega) j hj
end
end
section
/-! the component: the writing methods -/
section
variable {f_isOpen f_begun f_ended f_noteCount f_tagEntries f_tagCount f_valueEntries f_valueCount f_openGroups f_openValues f_groupCount f_found f_passed : Int32} {a_noteThere a_notes a_tagAgain a_tagDepth a_tags a_valueAgain a_valueDepth a_values : Nat → Int32}
theorem dr_xat {post : SX → Prop} {s : Nat} {p0 p1 : Int32} (hs : f_tagEntries = nI s) (hb : s < 52) (hp : post (f_isOpen, f_begun, f_ended, f_noteCount, nI (s + 1), f_tagCount, f_valueEntries, f_valueCount, f_openGroups, f_openValues, f_groupCount, f_found, f_passed, a_noteThere, a_notes, upd a_tagAgain s p0, upd a_tagDepth s p1, a_tags, a_valueAgain, a_valueDepth, a_values)) : wpX_addTagEntry post (f_isOpen, f_begun, f_ended, f_noteCount, f_tagEntries, f_tagCount, f_valueEntries, f_valueCount, f_openGroups, f_openValues, f_groupCount, f_found, f_passed, a_noteThere, a_notes, a_tagAgain, a_tagDepth, a_tags, a_valueAgain, a_valueDepth, a_values) p0 p1 := by
  have e : f_tagEntries.toNatClampNeg = s := by rw [hs]; exact nI_clamp (by omega)
  have hi : vp_in f_tagEntries 52 := by rw [hs]; exact vp_in_nI hb (by omega)
  have e1 : f_tagEntries + 1 = nI (s + 1) := by rw [hs]; exact nI_1 s
  exact And.intro hi (nm_r (congrArg (fun k => upd a_tagAgain k p0) e) (And.intro hi (nm_r (congrArg (fun k => upd a_tagDepth k p1) e) (nm_r e1 hp))))
theorem dr_xav {post : SX → Prop} {s : Nat} {p0 p1 : Int32} (hs : f_valueEntries = nI s) (hb : s < 112) (hp : post (f_isOpen, f_begun, f_ended, f_noteCount, f_tagEntries, f_tagCount, nI (s + 1), f_valueCount, f_openGroups, f_openValues, f_groupCount, f_found, f_passed, a_noteThere, a_notes, a_tagAgain, a_tagDepth, a_tags, upd a_valueAgain s p0, upd a_valueDepth s p1, a_values)) : wpX_addValueEntry post (f_isOpen, f_begun, f_ended, f_noteCount, f_tagEntries, f_tagCount, f_valueEntries, f_valueCount, f_openGroups, f_openValues, f_groupCount, f_found, f_passed, a_noteThere, a_notes, a_tagAgain, a_tagDepth, a_tags, a_valueAgain, a_valueDepth, a_values) p0 p1 := by
  have e : f_valueEntries.toNatClampNeg = s := by rw [hs]; exact nI_clamp (by omega)
  have hi : vp_in f_valueEntries 112 := by rw [hs]; exact vp_in_nI hb (by omega)
  have e1 : f_valueEntries + 1 = nI (s + 1) := by rw [hs]; exact nI_1 s
  exact And.intro hi (nm_r (congrArg (fun k => upd a_valueAgain k p0) e) (And.intro hi (nm_r (congrArg (fun k => upd a_valueDepth k p1) e) (nm_r e1 hp))))
section
variable {E op : Nat} {gn vn tg nd : Nat → Nat}
theorem dr_last (hG : dr_G E op gn vn tg nd) (hg : 0 < gn E) : (dr_M E gn - 1) % 4 < gn ((dr_M E gn - 1) / 4) ∧ (dr_M E gn - 1) / 4 = E ∧ (dr_M E gn - 1) % 4 = gn E - 1 ∧ dr_M E gn - 1 + 1 = dr_M E gn ∧ dr_M E gn - 1 < 48 := by
  have h4 := dr_G_g hG E
  have h48 := dr_M_48 hG
  unfold dr_M at h48 ⊢
  have e : (4 * E + gn E - 1) / 4 = E := by omega
  rw [e]
  omega
theorem dr_vE_lt (hG : dr_G E op gn vn tg nd) (hg : 0 < gn E) : dr_sm (dr_wV gn vn) (dr_M E gn - 1) ≤ dr_sm vn (dr_M E gn - 1) + 51 := by
  obtain ⟨l1, l2, l3, l4, l5⟩ := dr_last hG hg
  have h1 := dr_bV gn vn (dr_G_vr hG) (dr_M E gn - 1)
  have h2 := dr_sm_al (dr_rl gn) (a := dr_M E gn - 1) (b := dr_M E gn) (by omega)
  have h3 : dr_rl gn (dr_M E gn - 1) = 1 := if_pos l1
  have h4 := dr_G_40 hG
  omega
theorem dr_xcg {post : SX → Prop} (hG : dr_G E op gn vn tg nd) (hX : dr_X E op gn vn tg nd f_isOpen f_begun f_ended f_noteCount f_tagEntries f_tagCount f_valueEntries f_valueCount f_openGroups f_openValues f_groupCount a_noteThere a_tagAgain a_tagDepth a_valueAgain a_valueDepth) (hop : op = 1) (hp : ∀ (vE : Int32) (vA vD : Nat → Int32), vE = nI (dr_sm (dr_wV gn vn) (dr_M E gn)) → dr_VC (dr_M E gn) gn vn vA vD → post (f_isOpen, f_begun, f_ended, f_noteCount, f_tagEntries, f_tagCount, vE, f_valueCount, f_openGroups, f_openValues, f_groupCount, f_found, f_passed, a_noteThere, a_notes, a_tagAgain, a_tagDepth, a_tags, vA, vD, a_values)) : wpX_closeGroup post (f_isOpen, f_begun, f_ended, f_noteCount, f_tagEntries, f_tagCount, f_valueEntries, f_valueCount, f_openGroups, f_openValues, f_groupCount, f_found, f_passed, a_noteThere, a_notes, a_tagAgain, a_tagDepth, a_tags, a_valueAgain, a_valueDepth, a_values) := by
  have hog : f_openGroups = nI (gn E) := hX.2.2.2.1.1 hop
  have hVE := hX.2.2.1.1
  have hVC := hX.2.2.2.2.2.2
  have h4 := dr_G_g hG E
  by_cases h0 : gn E = 0
  · have eM : dr_Mv E gn vn = dr_M E gn := if_neg (by omega)
    rw [eM] at hVE hVC
    have e : f_openGroups ≤ 0 := by rw [hog, h0]; decide
    exact br_t e (hp _ _ _ hVE hVC)
  · have e : ¬ f_openGroups ≤ 0 := by rw [hog]; exact nI_nle (by omega) (by omega)
    have hov : f_openValues = nI (vn (dr_M E gn - 1)) := hX.2.2.2.1.2 (by omega)
    by_cases h1 : vn (dr_M E gn - 1) = 0
    · have eM : dr_Mv E gn vn = dr_M E gn - 1 := if_pos ⟨by omega, h1⟩
      rw [eM] at hVE hVC
      obtain ⟨l1, l2, l3, l4, l5⟩ := dr_last hG (by omega)
      have hw : dr_wV gn vn (dr_M E gn - 1) = 1 := by
        rw [dr_wV_0 (by omega)]
        exact dr_wT_r l1
      have hlt := dr_vE_lt hG (by omega)
      have h60 := dr_G_60 hG
      have hm := dr_sm_le vn (a := dr_M E gn - 1) (b := dr_M E gn) (by omega)
      have ev : f_openValues = 0 := by rw [hov, h1]; exact nI_0
      have ed : (1 : Int32) = nI (dr_vd gn vn (dr_M E gn - 1)) := by
        unfold dr_vd dr_rl
        rw [if_neg (by omega), if_pos l1]
        rfl
      have K : ∀ z0 : Int32, z0 = nI (dr_ag (dr_M E gn - 1)) → wX_closeGroup_28 post z0 f_isOpen f_begun f_ended f_noteCount f_tagEntries f_tagCount f_valueEntries f_valueCount f_openGroups f_openValues f_groupCount f_found f_passed a_noteThere a_notes a_tagAgain a_tagDepth a_tags a_valueAgain a_valueDepth a_values := by
        intro z0 ez
        unfold wX_closeGroup_28
        refine dr_xav hVE (by omega) ?_
        refine hp _ _ _ ?_ ?_
        · rw [← l4, dr_sm_s, hw, l4]
        · have h5 := dr_VC_add hVC hw ez ed
          rw [l4] at h5
          exact h5
      refine br_f e (br_t ev ?_)
      by_cases h2 : gn E = 1
      · refine br_t ?_ (K 0 (dr_ag_0 (by omega)).symm)
        rw [hog, h2]
        decide
      · refine br_f ?_ (K 1 (dr_ag_1 (by omega)).symm)
        rw [hog]
        exact nI_ge (a := 1) (by omega) (by omega)
    · have eM : dr_Mv E gn vn = dr_M E gn := if_neg (fun z => h1 z.2)
      rw [eM] at hVE hVC
      have hv := dr_G_v hG (dr_M E gn - 1)
      have ev : ¬ f_openValues = 0 := by rw [hov]; exact nI_ne0 (by omega) (by omega)
      exact br_f e (br_f ev (hp _ _ _ hVE hVC))
theorem dr_xgp {post : Int32 → SX → Prop} {h : Nat} {p1 : Int32} (hG : dr_G E op gn vn tg nd) (hX : dr_X E op gn vn tg nd f_isOpen f_begun f_ended f_noteCount f_tagEntries f_tagCount f_valueEntries f_valueCount f_openGroups f_openValues f_groupCount a_noteThere a_tagAgain a_tagDepth a_valueAgain a_valueDepth) (hop : op = 1) (hg : gn E < 4) (h40 : dr_sm (dr_rl gn) (dr_M E gn) < 40) (hh : h ≤ 1) (hp : ∀ (vE : Int32) (vA vD : Nat → Int32), vE = nI (dr_sm (dr_wV gn vn) (dr_M E gn)) → dr_VC (dr_M E gn) gn vn vA vD → post (nI (gn E + 1)) (f_isOpen, f_begun, f_ended, f_noteCount, nI (dr_sm (dr_wT gn) (dr_M E gn) + 1), nI (dr_sm tg (dr_M E gn) + h), vE, f_valueCount, nI (gn E + 1), 0, nI (dr_sm (dr_rl gn) (dr_M E gn) + 1), f_found, f_passed, a_noteThere, a_notes, upd a_tagAgain (dr_sm (dr_wT gn) (dr_M E gn)) (nI (dr_ag (dr_M E gn))), upd a_tagDepth (dr_sm (dr_wT gn) (dr_M E gn)) (nI (1 + h)), if h = 1 then upd a_tags (dr_sm tg (dr_M E gn)) p1 else a_tags, vA, vD, a_values)) : wpX_group post (f_isOpen, f_begun, f_ended, f_noteCount, f_tagEntries, f_tagCount, f_valueEntries, f_valueCount, f_openGroups, f_openValues, f_groupCount, f_found, f_passed, a_noteThere, a_notes, a_tagAgain, a_tagDepth, a_tags, a_valueAgain, a_valueDepth, a_values) (nI h) p1 := by
  have hE := dr_G_E hG
  have hog : f_openGroups = nI (gn E) := hX.2.2.2.1.1 hop
  have hgc := hX.2.2.1.2.2
  have hTE := hX.2.1.1
  have htc := hX.2.1.2
  have hbT := dr_bT gn (dr_M E gn)
  have h48 : dr_M E gn < 48 := by
    unfold dr_M
    omega
  have htg := dr_G_tg hG
  have hm4 : dr_M E gn % 4 = gn E := by
    unfold dr_M
    omega
  have e1 : ¬ f_isOpen = 0 := by rw [hX.1.1, hop]; decide
  have e2 : ¬ 4 ≤ f_openGroups := by rw [hog]; exact nI_ge (b := 4) hg (by omega)
  have e3 : f_groupCount < 40 := by rw [hgc]; exact nI_lt (b := 40) h40 (by omega)
  have e4 : f_openGroups + 1 = nI (gn E + 1) := by rw [hog]; exact nI_1 _
  have e5 : f_groupCount + 1 = nI (dr_sm (dr_rl gn) (dr_M E gn) + 1) := by rw [hgc]; exact nI_1 _
  unfold wpX_group
  refine br_f e1 (br_f e2 (br_t e3 ?_))
  refine dr_xcg hG hX hop (fun vE vA vD hvE hvC => ?_)
  have hP := hp vE vA vD hvE hvC
  have K : ∀ z0 : Int32, z0 = nI (dr_ag (dr_M E gn)) → wX_group_43 post (nI h) p1 z0 f_isOpen f_begun f_ended f_noteCount f_tagEntries f_tagCount vE f_valueCount f_openGroups f_openValues f_groupCount f_found f_passed a_noteThere a_notes a_tagAgain a_tagDepth a_tags vA vD a_values := by
    intro z0 ez
    subst ez
    unfold wX_group_43
    by_cases h1 : h = 1
    · subst h1
      refine br_f (by decide) ?_
      unfold wX_group_52
      refine dr_xat hTE (by omega) ?_
      have e6 : f_tagCount.toNatClampNeg = dr_sm tg (dr_M E gn) := by rw [htc]; exact nI_clamp (by omega)
      have e7 : vp_in f_tagCount 40 := by rw [htc]; exact vp_in_nI (by omega) (by omega)
      have e8 : f_tagCount + 1 = nI (dr_sm tg (dr_M E gn) + 1) := by rw [htc]; exact nI_1 _
      refine br_f (by decide) (And.intro e7 (nm_r (congrArg (fun k => upd a_tags k p1) e6) (nm_r e8 ?_)))
      exact nm_r e4 (nm_r e5 hP)
    · have h0 : h = 0 := by omega
      subst h0
      refine br_t nI_0 ?_
      unfold wX_group_52
      refine dr_xat hTE (by omega) ?_
      refine br_t nI_0 ?_
      rw [Nat.add_zero (dr_sm tg (dr_M E gn)), ← htc] at hP
      exact nm_r e4 (nm_r e5 hP)
  by_cases h0 : gn E = 0
  · refine br_t ?_ (K 0 (dr_ag_0 (by omega)).symm)
    rw [hog, h0]
    exact nI_0
  · refine br_f ?_ (K 1 (dr_ag_1 (by omega)).symm)
    rw [hog]
    exact nI_ne0 (by omega) (by omega)
theorem dr_xgp_n {post : Int32 → SX → Prop} {p0 p1 : Int32} (hG : dr_G E op gn vn tg nd) (hX : dr_X E op gn vn tg nd f_isOpen f_begun f_ended f_noteCount f_tagEntries f_tagCount f_valueEntries f_valueCount f_openGroups f_openValues f_groupCount a_noteThere a_tagAgain a_tagDepth a_valueAgain a_valueDepth) (hn : ¬ (op = 1 ∧ gn E < 4 ∧ dr_sm (dr_rl gn) (dr_M E gn) < 40)) (hp : post (-1) (f_isOpen, f_begun, f_ended, f_noteCount, f_tagEntries, f_tagCount, f_valueEntries, f_valueCount, f_openGroups, f_openValues, f_groupCount, f_found, f_passed, a_noteThere, a_notes, a_tagAgain, a_tagDepth, a_tags, a_valueAgain, a_valueDepth, a_values)) : wpX_group post (f_isOpen, f_begun, f_ended, f_noteCount, f_tagEntries, f_tagCount, f_valueEntries, f_valueCount, f_openGroups, f_openValues, f_groupCount, f_found, f_passed, a_noteThere, a_notes, a_tagAgain, a_tagDepth, a_tags, a_valueAgain, a_valueDepth, a_values) p0 p1 := by
  have hE := dr_G_E hG
  have h4 := dr_G_g hG E
  have h40 := dr_G_40 hG
  unfold wpX_group
  by_cases h0 : op = 0
  · refine br_t ?_ hp
    rw [hX.1.1, h0]
    exact nI_0
  · have hop : op = 1 := by omega
    have hog : f_openGroups = nI (gn E) := hX.2.2.2.1.1 hop
    refine br_f ?_ ?_
    · rw [hX.1.1, hop]
      decide
    · by_cases h1 : gn E = 4
      · refine br_t ?_ hp
        rw [hog, h1]
        decide
      · refine br_f ?_ (br_f ?_ hp)
        · rw [hog]
          exact nI_ge (b := 4) (by omega) (by omega)
        · rw [hX.2.2.1.2.2]
          exact nI_nlt (b := 40) (by omega) (by omega)
theorem dr_xva {post : Int32 → SX → Prop} {p0 : Int32} (hG : dr_G E op gn vn tg nd) (hX : dr_X E op gn vn tg nd f_isOpen f_begun f_ended f_noteCount f_tagEntries f_tagCount f_valueEntries f_valueCount f_openGroups f_openValues f_groupCount a_noteThere a_tagAgain a_tagDepth a_valueAgain a_valueDepth) (hg : 0 < gn E) (hv : vn (dr_M E gn - 1) < 4) (h60 : dr_sm vn (dr_M E gn) < 60) (hp : post (nI (vn (dr_M E gn - 1) + 1)) (f_isOpen, f_begun, f_ended, f_noteCount, f_tagEntries, f_tagCount, nI (dr_sm (dr_wV gn vn) (dr_M E gn - 1) + vn (dr_M E gn - 1) + 1), nI (dr_sm vn (dr_M E gn) + 1), f_openGroups, nI (vn (dr_M E gn - 1) + 1), f_groupCount, f_found, f_passed, a_noteThere, a_notes, a_tagAgain, a_tagDepth, a_tags, upd a_valueAgain (dr_sm (dr_wV gn vn) (dr_M E gn - 1) + vn (dr_M E gn - 1)) (nI (dr_va (dr_M E gn - 1) (vn (dr_M E gn - 1)))), upd a_valueDepth (dr_sm (dr_wV gn vn) (dr_M E gn - 1) + vn (dr_M E gn - 1)) 2, upd a_values (dr_sm vn (dr_M E gn)) p0)) : wpX_value post (f_isOpen, f_begun, f_ended, f_noteCount, f_tagEntries, f_tagCount, f_valueEntries, f_valueCount, f_openGroups, f_openValues, f_groupCount, f_found, f_passed, a_noteThere, a_notes, a_tagAgain, a_tagDepth, a_tags, a_valueAgain, a_valueDepth, a_values) p0 := by
  have hE := dr_G_E hG
  have h4 := dr_G_g hG E
  have hop := dr_G_op hG hg
  have hog : f_openGroups = nI (gn E) := hX.2.2.2.1.1 hop
  have hov : f_openValues = nI (vn (dr_M E gn - 1)) := hX.2.2.2.1.2 hg
  have hvc := hX.2.2.1.2.1
  obtain ⟨l1, l2, l3, l4, l5⟩ := dr_last hG hg
  have hlt := dr_vE_lt hG hg
  have hm : dr_sm vn (dr_M E gn - 1) + vn (dr_M E gn - 1) = dr_sm vn (dr_M E gn) := by
    rw [← dr_sm_s, l4]
  have hVE : f_valueEntries = nI (dr_sm (dr_wV gn vn) (dr_M E gn - 1) + vn (dr_M E gn - 1)) := by
    rw [hX.2.2.1.1]
    by_cases h1 : vn (dr_M E gn - 1) = 0
    · have eM : dr_Mv E gn vn = dr_M E gn - 1 := if_pos ⟨hg, h1⟩
      rw [eM, h1, Nat.add_zero]
    · have eM : dr_Mv E gn vn = dr_M E gn := if_neg (fun z => h1 z.2)
      have h2 := dr_sm_s (dr_wV gn vn) (dr_M E gn - 1)
      rw [l4, dr_wV_v (by omega)] at h2
      rw [eM, h2]
  have e1 : ¬ f_isOpen = 0 := by rw [hX.1.1, hop]; decide
  have e2 : ¬ f_openGroups = 0 := by rw [hog]; exact nI_ne0 hg (by omega)
  have e3 : ¬ 4 ≤ f_openValues := by rw [hov]; exact nI_ge (b := 4) hv (by omega)
  have e4 : f_valueCount < 60 := by rw [hvc]; exact nI_lt (b := 60) h60 (by omega)
  have e5 : vp_in f_valueCount 60 := by rw [hvc]; exact vp_in_nI h60 (by omega)
  have e6 : f_valueCount.toNatClampNeg = dr_sm vn (dr_M E gn) := by rw [hvc]; exact nI_clamp (by omega)
  have e7 : f_valueCount + 1 = nI (dr_sm vn (dr_M E gn) + 1) := by rw [hvc]; exact nI_1 _
  have e8 : f_openValues + 1 = nI (vn (dr_M E gn - 1) + 1) := by rw [hov]; exact nI_1 _
  have K : ∀ z0 : Int32, z0 = nI (dr_va (dr_M E gn - 1) (vn (dr_M E gn - 1))) → wX_value_58 post p0 z0 f_isOpen f_begun f_ended f_noteCount f_tagEntries f_tagCount f_valueEntries f_valueCount f_openGroups f_openValues f_groupCount f_found f_passed a_noteThere a_notes a_tagAgain a_tagDepth a_tags a_valueAgain a_valueDepth a_values := by
    intro z0 ez
    subst ez
    unfold wX_value_58
    refine dr_xav hVE (by omega) ?_
    exact And.intro e5 (nm_r (congrArg (fun k => upd a_values k p0) e6) (nm_r e7 (nm_r e8 hp)))
  unfold wpX_value
  refine br_f e1 (br_f e2 (br_f e3 (br_t e4 ?_)))
  by_cases h1 : vn (dr_M E gn - 1) = 0
  · have e9 : f_openValues ≤ 0 := by rw [hov, h1]; decide
    rw [h1, dr_va_0] at K
    refine br_t e9 ?_
    by_cases h2 : gn E = 1
    · refine br_t ?_ (K 0 (dr_ag_0 (by omega)).symm)
      rw [hog, h2]
      decide
    · refine br_f ?_ (K 1 (dr_ag_1 (by omega)).symm)
      rw [hog]
      exact nI_ge (a := 1) (by omega) (by omega)
  · have e9 : ¬ f_openValues ≤ 0 := by rw [hov]; exact nI_nle (by omega) (by omega)
    exact br_f e9 (K 2 (dr_va_1 (by omega)).symm)
theorem dr_xva_n {post : Int32 → SX → Prop} {p0 : Int32} (hG : dr_G E op gn vn tg nd) (hX : dr_X E op gn vn tg nd f_isOpen f_begun f_ended f_noteCount f_tagEntries f_tagCount f_valueEntries f_valueCount f_openGroups f_openValues f_groupCount a_noteThere a_tagAgain a_tagDepth a_valueAgain a_valueDepth) (hn : ¬ (0 < gn E ∧ vn (dr_M E gn - 1) < 4 ∧ dr_sm vn (dr_M E gn) < 60)) (hp : post (-1) (f_isOpen, f_begun, f_ended, f_noteCount, f_tagEntries, f_tagCount, f_valueEntries, f_valueCount, f_openGroups, f_openValues, f_groupCount, f_found, f_passed, a_noteThere, a_notes, a_tagAgain, a_tagDepth, a_tags, a_valueAgain, a_valueDepth, a_values)) : wpX_value post (f_isOpen, f_begun, f_ended, f_noteCount, f_tagEntries, f_tagCount, f_valueEntries, f_valueCount, f_openGroups, f_openValues, f_groupCount, f_found, f_passed, a_noteThere, a_notes, a_tagAgain, a_tagDepth, a_tags, a_valueAgain, a_valueDepth, a_values) p0 := by
  have hE := dr_G_E hG
  have h4 := dr_G_g hG E
  have h60 := dr_G_60 hG
  unfold wpX_value
  by_cases h0 : op = 0
  · refine br_t ?_ hp
    rw [hX.1.1, h0]
    exact nI_0
  · have hop : op = 1 := by omega
    have hog : f_openGroups = nI (gn E) := hX.2.2.2.1.1 hop
    refine br_f ?_ ?_
    · rw [hX.1.1, hop]
      decide
    · by_cases h1 : gn E = 0
      · refine br_t ?_ hp
        rw [hog, h1]
        exact nI_0
      · have hov : f_openValues = nI (vn (dr_M E gn - 1)) := hX.2.2.2.1.2 (by omega)
        have hv := dr_G_v hG (dr_M E gn - 1)
        refine br_f ?_ ?_
        · rw [hog]
          exact nI_ne0 (by omega) (by omega)
        · by_cases h2 : vn (dr_M E gn - 1) = 4
          · refine br_t ?_ hp
            rw [hov, h2]
            decide
          · refine br_f ?_ (br_f ?_ hp)
            · rw [hov]
              exact nI_ge (b := 4) (by omega) (by omega)
            · rw [hX.2.2.1.2.1]
              exact nI_nlt (b := 60) (by omega) (by omega)
theorem dr_xen {post : Int32 → SX → Prop} (hG : dr_G E op gn vn tg nd) (hX : dr_X E op gn vn tg nd f_isOpen f_begun f_ended f_noteCount f_tagEntries f_tagCount f_valueEntries f_valueCount f_openGroups f_openValues f_groupCount a_noteThere a_tagAgain a_tagDepth a_valueAgain a_valueDepth) (hop : op = 1) (hp : ∀ (tE vE : Int32) (tA tD vA vD : Nat → Int32), tE = nI (dr_sm (dr_wT gn) (4 * E + 4)) → dr_TC (4 * E + 4) gn tg tA tD → vE = nI (dr_sm (dr_wV gn vn) (4 * E + 4)) → dr_VC (4 * E + 4) gn vn vA vD → post (nI (E + 1)) (0, f_begun, nI (E + 1), f_noteCount, tE, f_tagCount, vE, f_valueCount, f_openGroups, f_openValues, f_groupCount, f_found, f_passed, a_noteThere, a_notes, tA, tD, a_tags, vA, vD, a_values)) : wpX_end post (f_isOpen, f_begun, f_ended, f_noteCount, f_tagEntries, f_tagCount, f_valueEntries, f_valueCount, f_openGroups, f_openValues, f_groupCount, f_found, f_passed, a_noteThere, a_notes, a_tagAgain, a_tagDepth, a_tags, a_valueAgain, a_valueDepth, a_values) := by
  have hE := dr_G_E hG
  have hog : f_openGroups = nI (gn E) := hX.2.2.2.1.1 hop
  have hTE := hX.2.1.1
  have hTC := hX.2.2.2.2.2.1
  have h4 := dr_G_g hG E
  have hvr := dr_G_vr hG
  have e1 : ¬ f_isOpen = 0 := by rw [hX.1.1, hop]; decide
  have ee : f_ended + 1 = nI (E + 1) := by rw [hX.1.2.2.1]; exact nI_1 _
  have hz : ∀ a, 4 * E + (if gn E = 0 then 1 else gn E) ≤ a → a < 4 * E + 4 → dr_wT gn a = 0 := by
    intro a h1 h2
    unfold dr_wT
    rw [if_neg]
    rw [show a / 4 = E from by omega]
    split at h1 <;> omega
  have hz2 : ∀ a, 4 * E + (if gn E = 0 then 1 else gn E) ≤ a → a < 4 * E + 4 → dr_wV gn vn a = 0 := by
    intro a h1 h2
    have h3 := dr_wV_w hvr (a := a)
    have h5 := hz a h1 h2
    omega
  unfold wpX_end
  refine br_f e1 ?_
  refine dr_xcg hG hX hop (fun vE vA vD hvE hvC => ?_)
  by_cases h0 : gn E = 0
  · have e2 : f_openGroups = 0 := by rw [hog, h0]; exact nI_0
    rw [if_pos h0] at hz hz2
    have eM : dr_M E gn = 4 * E := by
      unfold dr_M
      omega
    have hbT := dr_G_40 hG
    have hbT2 := dr_bT gn (dr_M E gn)
    have hbV := dr_bV gn vn hvr (dr_M E gn)
    have h60 := dr_G_60 hG
    rw [eM] at hbT hbT2 hbV h60 hTE hTC hvE hvC
    have hw : dr_wT gn (4 * E) = 1 := dr_wT_z (by omega)
    have h5 : ¬ (4 * E) % 4 < gn (4 * E / 4) := by
      rw [show 4 * E / 4 = E from by omega]
      omega
    have hv0 : ¬ 0 < vn (4 * E) := fun z => h5 (hvr _ z)
    have hw2 : dr_wV gn vn (4 * E) = 1 := by rw [dr_wV_0 hv0]; exact hw
    have a1 : (0 : Int32) = nI (dr_ag (4 * E)) := (dr_ag_0 (by omega)).symm
    have a2 : (0 : Int32) = nI (dr_td gn tg (4 * E)) := by
      unfold dr_td
      rw [if_neg h5]
      rfl
    have a3 : (0 : Int32) = nI (dr_vd gn vn (4 * E)) := by
      unfold dr_vd dr_rl
      rw [if_neg hv0, if_neg h5]
      rfl
    have sT : dr_sm (dr_wT gn) (4 * E + 4) = dr_sm (dr_wT gn) (4 * E) + 1 := by
      rw [dr_sm_0 (a := 4 * E + 1) (4 * E + 4) (by omega) hz, dr_sm_s, hw]
    have sV : dr_sm (dr_wV gn vn) (4 * E + 4) = dr_sm (dr_wV gn vn) (4 * E) + 1 := by
      rw [dr_sm_0 (a := 4 * E + 1) (4 * E + 4) (by omega) hz2, dr_sm_s, hw2]
    refine br_t e2 ?_
    refine dr_xat hTE (by omega) ?_
    refine dr_xav hvE (by omega) ?_
    refine nm_r ee (hp _ _ _ _ _ _ ?_ ?_ ?_ ?_)
    · rw [sT]
    · exact dr_TC_sk (dr_TC_add hTC hw a1 a2) hz
    · rw [sV]
    · exact dr_VC_sk (dr_VC_add hvC hw2 a1 a3) hz2
  · have e2 : ¬ f_openGroups = 0 := by rw [hog]; exact nI_ne0 (by omega) (by omega)
    rw [if_neg h0] at hz hz2
    refine br_f e2 (nm_r ee (hp _ _ _ _ _ _ ?_ ?_ ?_ ?_))
    · rw [dr_sm_0 (a := 4 * E + gn E) (4 * E + 4) (by omega) hz]
      exact hTE
    · exact dr_TC_sk hTC hz
    · rw [dr_sm_0 (a := 4 * E + gn E) (4 * E + 4) (by omega) hz2]
      exact hvE
    · exact dr_VC_sk hvC hz2
end
end
end
section
/-! begin of the component; the reference's writing methods -/
theorem dr_nar {h : Nat} (hh : h ≤ 1) : vp_nar .boolean (nI h) = nI h := by
  by_cases h1 : h = 1
  · subst h1
    rfl
  · have h0 : h = 0 := by omega
    subst h0
    rfl
theorem dr_bz (v : Int32) : ∃ h : Nat, h ≤ 1 ∧ lw_bz v = nI h := by
  cases lw_bz_01 v with
  | inl h => exact ⟨0, by omega, h.trans nI_0.symm⟩
  | inr h => exact ⟨1, by omega, h⟩
section
variable {f_isOpen f_begun f_ended f_noteCount f_tagEntries f_tagCount f_valueEntries f_valueCount f_openGroups f_openValues f_groupCount f_found f_passed : Int32} {a_noteThere a_notes a_tagAgain a_tagDepth a_tags a_valueAgain a_valueDepth a_values : Nat → Int32}
variable {E op : Nat} {gn vn tg nd : Nat → Nat}
theorem dr_xbg {post : Int32 → SX → Prop} {h : Nat} {p1 : Int32} (hG : dr_G E op gn vn tg nd) (hX : dr_X E op gn vn tg nd f_isOpen f_begun f_ended f_noteCount f_tagEntries f_tagCount f_valueEntries f_valueCount f_openGroups f_openValues f_groupCount a_noteThere a_tagAgain a_tagDepth a_valueAgain a_valueDepth) (hop : op = 0) (h12 : E < 12) (hh : h ≤ 1) (hp : post (nI E) (1, nI (E + 1), f_ended, nI (dr_sm nd E + h), f_tagEntries, f_tagCount, f_valueEntries, f_valueCount, 0, f_openValues, f_groupCount, f_found, f_passed, upd a_noteThere E (nI h), if h = 1 then upd a_notes (dr_sm nd E) p1 else a_notes, a_tagAgain, a_tagDepth, a_tags, a_valueAgain, a_valueDepth, a_values)) : wpX_begin post (f_isOpen, f_begun, f_ended, f_noteCount, f_tagEntries, f_tagCount, f_valueEntries, f_valueCount, f_openGroups, f_openValues, f_groupCount, f_found, f_passed, a_noteThere, a_notes, a_tagAgain, a_tagDepth, a_tags, a_valueAgain, a_valueDepth, a_values) (nI h) p1 := by
  have hnb := dr_sm_1 (dr_G_n hG) E
  have hb := hX.1.2.1
  have hc := hX.1.2.2.2
  rw [hop, Nat.add_zero] at hb hc
  have e1 : f_isOpen = 0 := by rw [hX.1.1, hop]; exact nI_0
  have e2 : f_begun < 12 := by rw [hb]; exact nI_lt (b := 12) h12 (by omega)
  have e3 : vp_in f_begun 12 := by rw [hb]; exact vp_in_nI h12 (by omega)
  have e4 : upd a_noteThere f_begun.toNatClampNeg (vp_nar .boolean (nI h)) = upd a_noteThere E (nI h) := by rw [hb, nI_clamp (by omega), dr_nar hh]
  have e5 : f_begun + 1 = nI (E + 1) := by rw [hb]; exact nI_1 _
  rw [← nI_pred] at hp
  refine br_t e1 (br_t e2 (And.intro e3 (nm_r e4 ?_)))
  by_cases h1 : h = 1
  · subst h1
    have e6 : vp_in f_noteCount 12 := by rw [hc]; exact vp_in_nI (by omega) (by omega)
    have e7 : upd a_notes f_noteCount.toNatClampNeg p1 = upd a_notes (dr_sm nd E) p1 := by rw [hc, nI_clamp (by omega)]
    have e8 : f_noteCount + 1 = nI (dr_sm nd E + 1) := by rw [hc]; exact nI_1 _
    exact br_f (by decide) (And.intro e6 (nm_r e7 (nm_r e8 (nm_r e5 hp))))
  · have h0 : h = 0 := by omega
    subst h0
    rw [Nat.add_zero (dr_sm nd E), ← hc] at hp
    exact br_t nI_0 (nm_r e5 hp)
theorem dr_xbg_n {post : Int32 → SX → Prop} {p0 p1 : Int32} (hG : dr_G E op gn vn tg nd) (hX : dr_X E op gn vn tg nd f_isOpen f_begun f_ended f_noteCount f_tagEntries f_tagCount f_valueEntries f_valueCount f_openGroups f_openValues f_groupCount a_noteThere a_tagAgain a_tagDepth a_valueAgain a_valueDepth) (hn : ¬ (op = 0 ∧ E < 12)) (hp : post (-1) (f_isOpen, f_begun, f_ended, f_noteCount, f_tagEntries, f_tagCount, f_valueEntries, f_valueCount, f_openGroups, f_openValues, f_groupCount, f_found, f_passed, a_noteThere, a_notes, a_tagAgain, a_tagDepth, a_tags, a_valueAgain, a_valueDepth, a_values)) : wpX_begin post (f_isOpen, f_begun, f_ended, f_noteCount, f_tagEntries, f_tagCount, f_valueEntries, f_valueCount, f_openGroups, f_openValues, f_groupCount, f_found, f_passed, a_noteThere, a_notes, a_tagAgain, a_tagDepth, a_tags, a_valueAgain, a_valueDepth, a_values) p0 p1 := by
  have hE := dr_G_E hG
  by_cases h0 : op = 0
  · refine br_t ?_ (br_f ?_ hp)
    · rw [hX.1.1, h0]
      exact nI_0
    · rw [hX.1.2.1]
      exact nI_nlt (b := 12) (by omega) (by omega)
  · refine br_f ?_ hp
    rw [hX.1.1]
    exact nI_ne0 (by omega) (by omega)
theorem dr_xen_n {post : Int32 → SX → Prop} (hX : dr_X E op gn vn tg nd f_isOpen f_begun f_ended f_noteCount f_tagEntries f_tagCount f_valueEntries f_valueCount f_openGroups f_openValues f_groupCount a_noteThere a_tagAgain a_tagDepth a_valueAgain a_valueDepth) (hn : op = 0) (hp : post (-1) (f_isOpen, f_begun, f_ended, f_noteCount, f_tagEntries, f_tagCount, f_valueEntries, f_valueCount, f_openGroups, f_openValues, f_groupCount, f_found, f_passed, a_noteThere, a_notes, a_tagAgain, a_tagDepth, a_tags, a_valueAgain, a_valueDepth, a_values)) : wpX_end post (f_isOpen, f_begun, f_ended, f_noteCount, f_tagEntries, f_tagCount, f_valueEntries, f_valueCount, f_openGroups, f_openValues, f_groupCount, f_found, f_passed, a_noteThere, a_notes, a_tagAgain, a_tagDepth, a_tags, a_valueAgain, a_valueDepth, a_values) := by
  refine br_t ?_ hp
  rw [hX.1.1, hn]
  exact nI_0
end
section
variable {g_records g_open g_allGroups g_allValues : Int32} {b_noted b_notes b_groupsOf b_tagged b_tags b_valuesOf b_values : Nat → Int32}
variable {E op : Nat} {gn vn tg nd : Nat → Nat}
theorem dr_ybg {post : Int32 → SY → Prop} {h : Nat} {p1 : Int32} (hY : dr_Y E op gn vn tg nd g_records g_open g_allGroups g_allValues b_noted b_groupsOf b_tagged b_valuesOf) (hop : op = 0) (h12 : E < 12) (hh : h ≤ 1) (hp : post (nI E) (nI (E + 1), 1, g_allGroups, g_allValues, upd b_noted E (nI h), upd b_notes E (if h = 1 then p1 else 0), b_groupsOf, b_tagged, b_tags, b_valuesOf, b_values)) : wpY_begin post (g_records, g_open, g_allGroups, g_allValues, b_noted, b_notes, b_groupsOf, b_tagged, b_tags, b_valuesOf, b_values) (nI h) p1 := by
  have hb := hY.1.1
  rw [hop, Nat.add_zero] at hb
  have e1 : g_open = 0 := by rw [hY.1.2.1, hop]; exact nI_0
  have e2 : ¬ g_records = 12 := by
    rw [hb]
    intro z
    have := (nI_eq (a := E) (b := 12) (by omega) (by omega)).mp z
    omega
  have e3 : vp_in g_records 12 := by rw [hb]; exact vp_in_nI h12 (by omega)
  have e4 : upd b_noted g_records.toNatClampNeg (vp_nar .boolean (nI h)) = upd b_noted E (nI h) := by rw [hb, nI_clamp (by omega), dr_nar hh]
  have e5 : g_records + 1 = nI (E + 1) := by rw [hb]; exact nI_1 _
  have e6 : ∀ z : Int32, upd b_notes g_records.toNatClampNeg z = upd b_notes E z := by
    intro z
    rw [hb, nI_clamp (by omega)]
  rw [← nI_pred] at hp
  refine br_t e1 (br_f e2 (And.intro e3 (nm_r e4 ?_)))
  by_cases h1 : h = 1
  · subst h1
    exact br_f (by decide) (And.intro e3 (nm_r (e6 p1) (nm_r e5 hp)))
  · have h0 : h = 0 := by omega
    subst h0
    exact br_t nI_0 (And.intro e3 (nm_r (e6 0) (nm_r e5 hp)))
theorem dr_ybg_n {post : Int32 → SY → Prop} {p0 p1 : Int32} (hG : dr_G E op gn vn tg nd) (hY : dr_Y E op gn vn tg nd g_records g_open g_allGroups g_allValues b_noted b_groupsOf b_tagged b_valuesOf) (hn : ¬ (op = 0 ∧ E < 12)) (hp : post (-1) (g_records, g_open, g_allGroups, g_allValues, b_noted, b_notes, b_groupsOf, b_tagged, b_tags, b_valuesOf, b_values)) : wpY_begin post (g_records, g_open, g_allGroups, g_allValues, b_noted, b_notes, b_groupsOf, b_tagged, b_tags, b_valuesOf, b_values) p0 p1 := by
  have hE := dr_G_E hG
  by_cases h0 : op = 0
  · refine br_t ?_ (br_t ?_ hp)
    · rw [hY.1.2.1, h0]
      exact nI_0
    · rw [hY.1.1, show E + op = 12 from by omega]
      rfl
  · refine br_f ?_ hp
    rw [hY.1.2.1]
    exact nI_ne0 (by omega) (by omega)
theorem dr_ygp {post : Int32 → SY → Prop} {h : Nat} {p1 : Int32} (hG : dr_G E op gn vn tg nd) (hY : dr_Y E op gn vn tg nd g_records g_open g_allGroups g_allValues b_noted b_groupsOf b_tagged b_valuesOf) (hop : op = 1) (hg : gn E < 4) (h40 : dr_sm (dr_rl gn) (dr_M E gn) < 40) (hh : h ≤ 1) (hp : post (nI (gn E + 1)) (g_records, g_open, nI (dr_sm (dr_rl gn) (dr_M E gn) + 1), g_allValues, b_noted, b_notes, upd b_groupsOf E (nI (gn E + 1)), upd b_tagged (dr_M E gn) (nI h), upd b_tags (dr_M E gn) (if h = 1 then p1 else 0), b_valuesOf, b_values)) : wpY_group post (g_records, g_open, g_allGroups, g_allValues, b_noted, b_notes, b_groupsOf, b_tagged, b_tags, b_valuesOf, b_values) (nI h) p1 := by
  have hE := dr_G_E hG
  have h48 : dr_M E gn < 48 := by
    unfold dr_M
    omega
  have er : g_records - 1 = nI E := by rw [hY.1.1, hop]; exact nI_pred E
  have ec : (nI E).toNatClampNeg = E := nI_clamp (by omega)
  have e1 : ¬ g_open = 0 := by rw [hY.1.2.1, hop]; decide
  have hi : vp_in (nI E) 12 := vp_in_nI (by omega) (by omega)
  have eg : b_groupsOf (nI E).toNatClampNeg = nI (gn E) := by rw [ec]; exact hY.2.2.1 E
  have e2 : ¬ b_groupsOf (nI E).toNatClampNeg = 4 := by
    rw [eg]
    intro z
    have := (nI_eq (a := gn E) (b := 4) (by omega) (by omega)).mp z
    omega
  have e3 : ¬ g_allGroups = 40 := by
    rw [hY.1.2.2.1]
    intro z
    have := (nI_eq (b := 40) (by omega) (by omega)).mp z
    omega
  have e4 : 4 * nI E + b_groupsOf (nI E).toNatClampNeg = nI (dr_M E gn) := by
    rw [eg]
    unfold dr_M
    rw [← nI_add, ← pk_mul]
    rfl
  have hi2 : vp_in (nI (dr_M E gn)) 48 := vp_in_nI h48 (by omega)
  have e5 : upd b_tagged (nI (dr_M E gn)).toNatClampNeg (vp_nar .boolean (nI h)) = upd b_tagged (dr_M E gn) (nI h) := by rw [nI_clamp (by omega), dr_nar hh]
  have e6 : ∀ z : Int32, upd b_tags (nI (dr_M E gn)).toNatClampNeg z = upd b_tags (dr_M E gn) z := by
    intro z
    rw [nI_clamp (by omega)]
  have e7 : upd b_groupsOf (nI E).toNatClampNeg (b_groupsOf (nI E).toNatClampNeg + 1) = upd b_groupsOf E (nI (gn E + 1)) := by
    rw [eg, ec, nI_1]
  have e8 : g_allGroups + 1 = nI (dr_sm (dr_rl gn) (dr_M E gn) + 1) := by rw [hY.1.2.2.1]; exact nI_1 _
  have e9 : upd b_groupsOf E (nI (gn E + 1)) (nI E).toNatClampNeg = nI (gn E + 1) := by rw [ec]; exact pk_us
  have hp' : ∀ x : Int32, x = nI (gn E + 1) → post x (g_records, g_open, nI (dr_sm (dr_rl gn) (dr_M E gn) + 1), g_allValues, b_noted, b_notes, upd b_groupsOf E (nI (gn E + 1)), upd b_tagged (dr_M E gn) (nI h), upd b_tags (dr_M E gn) (if h = 1 then p1 else 0), b_valuesOf, b_values) := by
    intro x ex
    rw [ex]
    exact hp
  have K : ∀ z : Int32, z = (if h = 1 then p1 else 0) → wY_group_75 post (nI E) z (nI (dr_M E gn)) g_records g_open g_allGroups g_allValues b_noted b_notes b_groupsOf (upd b_tagged (dr_M E gn) (nI h)) b_tags b_valuesOf b_values := by
    intro z ez
    subst ez
    exact And.intro hi2 (nm_r (e6 _) (And.intro hi (And.intro hi (nm_r e7 (nm_r e8 (And.intro hi (hp' _ e9)))))))
  unfold wpY_group
  dsimp only
  rw [er]
  refine br_f e1 (And.intro hi (br_f e2 (br_f e3 (nm_r rfl (And.intro hi (nm_r e4 (And.intro hi2 (nm_r e5 ?_))))))))
  by_cases h1 : h = 1
  · refine br_f ?_ (K p1 (if_pos h1).symm)
    rw [h1]
    decide
  · refine br_t ?_ (K 0 (if_neg h1).symm)
    rw [show h = 0 from by omega]
    exact nI_0
theorem dr_ygp_n {post : Int32 → SY → Prop} {p0 p1 : Int32} (hG : dr_G E op gn vn tg nd) (hY : dr_Y E op gn vn tg nd g_records g_open g_allGroups g_allValues b_noted b_groupsOf b_tagged b_valuesOf) (hn : ¬ (op = 1 ∧ gn E < 4 ∧ dr_sm (dr_rl gn) (dr_M E gn) < 40)) (hp : post (-1) (g_records, g_open, g_allGroups, g_allValues, b_noted, b_notes, b_groupsOf, b_tagged, b_tags, b_valuesOf, b_values)) : wpY_group post (g_records, g_open, g_allGroups, g_allValues, b_noted, b_notes, b_groupsOf, b_tagged, b_tags, b_valuesOf, b_values) p0 p1 := by
  have hE := dr_G_E hG
  have h4 := dr_G_g hG E
  have h40 := dr_G_40 hG
  unfold wpY_group
  dsimp only
  by_cases h0 : op = 0
  · refine br_t ?_ hp
    rw [hY.1.2.1, h0]
    exact nI_0
  · have hop : op = 1 := by omega
    have er : g_records - 1 = nI E := by rw [hY.1.1, hop]; exact nI_pred E
    have eg : b_groupsOf (nI E).toNatClampNeg = nI (gn E) := by rw [nI_clamp (by omega)]; exact hY.2.2.1 E
    rw [er]
    refine br_f ?_ (And.intro (vp_in_nI (by omega) (by omega)) ?_)
    · rw [hY.1.2.1, hop]
      decide
    · by_cases h1 : gn E = 4
      · refine br_t ?_ hp
        rw [eg, h1]
        rfl
      · refine br_f ?_ (br_t ?_ hp)
        · rw [eg]
          intro z
          have := (nI_eq (a := gn E) (b := 4) (by omega) (by omega)).mp z
          omega
        · rw [hY.1.2.2.1, show dr_sm (dr_rl gn) (dr_M E gn) = 40 from by omega]
          rfl
theorem dr_yva {post : Int32 → SY → Prop} {p0 : Int32} (hG : dr_G E op gn vn tg nd) (hY : dr_Y E op gn vn tg nd g_records g_open g_allGroups g_allValues b_noted b_groupsOf b_tagged b_valuesOf) (hg : 0 < gn E) (hv : vn (dr_M E gn - 1) < 4) (h60 : dr_sm vn (dr_M E gn) < 60) (hp : post (nI (vn (dr_M E gn - 1) + 1)) (g_records, g_open, g_allGroups, nI (dr_sm vn (dr_M E gn) + 1), b_noted, b_notes, b_groupsOf, b_tagged, b_tags, upd b_valuesOf (dr_M E gn - 1) (nI (vn (dr_M E gn - 1) + 1)), upd b_values (4 * (dr_M E gn - 1) + vn (dr_M E gn - 1)) p0)) : wpY_value post (g_records, g_open, g_allGroups, g_allValues, b_noted, b_notes, b_groupsOf, b_tagged, b_tags, b_valuesOf, b_values) p0 := by
  have hE := dr_G_E hG
  have h4 := dr_G_g hG E
  have hop := dr_G_op hG hg
  have h48 := dr_M_48 hG
  have er : g_records - 1 = nI E := by rw [hY.1.1, hop]; exact nI_pred E
  have ec : (nI E).toNatClampNeg = E := nI_clamp (by omega)
  have e1 : ¬ g_open = 0 := by rw [hY.1.2.1, hop]; decide
  have hi : vp_in (nI E) 12 := vp_in_nI (by omega) (by omega)
  have eg : b_groupsOf (nI E).toNatClampNeg = nI (gn E) := by rw [ec]; exact hY.2.2.1 E
  have e2 : ¬ b_groupsOf (nI E).toNatClampNeg = 0 := by rw [eg]; exact nI_ne0 hg (by omega)
  have e3 : ¬ g_allValues = 60 := by
    rw [hY.1.2.2.2]
    intro z
    have := (nI_eq (b := 60) (by omega) (by omega)).mp z
    omega
  have e4 : 4 * nI E + b_groupsOf (nI E).toNatClampNeg - 1 = nI (dr_M E gn - 1) := by
    rw [eg]
    unfold dr_M
    rw [← pk_sub (b := 1) (by omega), ← nI_add, ← pk_mul]
    rfl
  obtain ⟨c, hc⟩ : ∃ c, c = dr_M E gn - 1 := ⟨_, rfl⟩
  rw [← hc] at hv hp e4
  have hi2 : vp_in (nI c) 48 := vp_in_nI (by omega) (by omega)
  have ecc : (nI c).toNatClampNeg = c := nI_clamp (by omega)
  have ev : b_valuesOf (nI c).toNatClampNeg = nI (vn c) := by rw [ecc]; exact hY.2.2.2.2 c
  have e5 : ¬ b_valuesOf (nI c).toNatClampNeg = 4 := by
    rw [ev]
    intro z
    have := (nI_eq (a := vn c) (b := 4) (by omega) (by omega)).mp z
    omega
  have e6 : 4 * nI c + b_valuesOf (nI c).toNatClampNeg = nI (4 * c + vn c) := by
    rw [ev, ← nI_add, ← pk_mul]
    rfl
  have hi3 : vp_in (4 * nI c + b_valuesOf (nI c).toNatClampNeg) 192 := by rw [e6]; exact vp_in_nI (by omega) (by omega)
  have e7 : upd b_values (4 * nI c + b_valuesOf (nI c).toNatClampNeg).toNatClampNeg p0 = upd b_values (4 * c + vn c) p0 := by rw [e6, nI_clamp (by omega)]
  have e8 : upd b_valuesOf (nI c).toNatClampNeg (b_valuesOf (nI c).toNatClampNeg + 1) = upd b_valuesOf c (nI (vn c + 1)) := by rw [ev, ecc, nI_1]
  have e9 : g_allValues + 1 = nI (dr_sm vn (dr_M E gn) + 1) := by rw [hY.1.2.2.2]; exact nI_1 _
  have e10 : upd b_valuesOf c (nI (vn c + 1)) (nI c).toNatClampNeg = nI (vn c + 1) := by rw [ecc]; exact pk_us
  have hp' : ∀ x : Int32, x = nI (vn c + 1) → post x (g_records, g_open, g_allGroups, nI (dr_sm vn (dr_M E gn) + 1), b_noted, b_notes, b_groupsOf, b_tagged, b_tags, upd b_valuesOf c (nI (vn c + 1)), upd b_values (4 * c + vn c) p0) := by
    intro x ex
    rw [ex]
    exact hp
  unfold wpY_value
  dsimp only
  rw [er]
  refine br_f e1 (And.intro hi (br_f e2 (br_f e3 (And.intro hi (nm_r e4 (And.intro hi2 (br_f e5 (And.intro hi2 (And.intro hi3 (nm_r e7 ?_))))))))))
  exact And.intro hi2 (And.intro hi2 (nm_r e8 (nm_r e9 (And.intro hi2 (hp' _ e10)))))
theorem dr_yva_n {post : Int32 → SY → Prop} {p0 : Int32} (hG : dr_G E op gn vn tg nd) (hY : dr_Y E op gn vn tg nd g_records g_open g_allGroups g_allValues b_noted b_groupsOf b_tagged b_valuesOf) (hn : ¬ (0 < gn E ∧ vn (dr_M E gn - 1) < 4 ∧ dr_sm vn (dr_M E gn) < 60)) (hp : post (-1) (g_records, g_open, g_allGroups, g_allValues, b_noted, b_notes, b_groupsOf, b_tagged, b_tags, b_valuesOf, b_values)) : wpY_value post (g_records, g_open, g_allGroups, g_allValues, b_noted, b_notes, b_groupsOf, b_tagged, b_tags, b_valuesOf, b_values) p0 := by
  have hE := dr_G_E hG
  have h4 := dr_G_g hG E
  have h60 := dr_G_60 hG
  have h48 := dr_M_48 hG
  unfold wpY_value
  dsimp only
  by_cases h0 : op = 0
  · refine br_t ?_ hp
    rw [hY.1.2.1, h0]
    exact nI_0
  · have hop : op = 1 := by omega
    have er : g_records - 1 = nI E := by rw [hY.1.1, hop]; exact nI_pred E
    have eg : b_groupsOf (nI E).toNatClampNeg = nI (gn E) := by rw [nI_clamp (by omega)]; exact hY.2.2.1 E
    have hi : vp_in (nI E) 12 := vp_in_nI (by omega) (by omega)
    rw [er]
    refine br_f ?_ (And.intro hi ?_)
    · rw [hY.1.2.1, hop]
      decide
    · by_cases h1 : gn E = 0
      · refine br_t ?_ hp
        rw [eg, h1]
        exact nI_0
      · refine br_f ?_ ?_
        · rw [eg]
          exact nI_ne0 (by omega) (by omega)
        · have hv := dr_G_v hG (dr_M E gn - 1)
          by_cases h2 : dr_sm vn (dr_M E gn) = 60
          · refine br_t ?_ hp
            rw [hY.1.2.2.2, h2]
            rfl
          · have e4 : 4 * nI E + b_groupsOf (nI E).toNatClampNeg - 1 = nI (dr_M E gn - 1) := by
              rw [eg]
              unfold dr_M
              rw [← pk_sub (b := 1) (by omega), ← nI_add, ← pk_mul]
              rfl
            refine br_f ?_ (And.intro hi (nm_r e4 (And.intro (vp_in_nI (by omega) (by omega)) (br_t ?_ hp))))
            · rw [hY.1.2.2.2]
              intro z
              have := (nI_eq (b := 60) (by omega) (by omega)).mp z
              omega
            · rw [nI_clamp (by omega), hY.2.2.2.2, show vn (dr_M E gn - 1) = 4 from by omega]
              rfl
theorem dr_yen {post : Int32 → SY → Prop} (hY : dr_Y E op gn vn tg nd g_records g_open g_allGroups g_allValues b_noted b_groupsOf b_tagged b_valuesOf) (hop : op = 1) (hp : post (nI (E + 1)) (g_records, 0, g_allGroups, g_allValues, b_noted, b_notes, b_groupsOf, b_tagged, b_tags, b_valuesOf, b_values)) : wpY_end post (g_records, g_open, g_allGroups, g_allValues, b_noted, b_notes, b_groupsOf, b_tagged, b_tags, b_valuesOf, b_values) := by
  have hr := hY.1.1
  rw [hop] at hr
  refine br_f ?_ ?_
  · rw [hY.1.2.1, hop]
    decide
  · rw [← hr] at hp
    exact hp
theorem dr_yen_n {post : Int32 → SY → Prop} (hY : dr_Y E op gn vn tg nd g_records g_open g_allGroups g_allValues b_noted b_groupsOf b_tagged b_valuesOf) (hn : op = 0) (hp : post (-1) (g_records, g_open, g_allGroups, g_allValues, b_noted, b_notes, b_groupsOf, b_tagged, b_tags, b_valuesOf, b_values)) : wpY_end post (g_records, g_open, g_allGroups, g_allValues, b_noted, b_notes, b_groupsOf, b_tagged, b_tags, b_valuesOf, b_values) := by
  refine br_t ?_ hp
  rw [hY.1.2.1, hn]
  exact nI_0
end
end
section
/-! the writing methods keep the relation -/
theorem dr_uu {a : Nat → Int32} {f : Nat → Nat} (h : ∀ r, a r = nI (f r)) (k x : Nat) : ∀ r, upd a k (nI x) r = nI (dr_up f k x r) := by
  intro r
  by_cases e : r = k
  · rw [e, pk_us, dr_us]
  · rw [pk_un e, dr_un e]
    exact h r
theorem dr_sm_up {f : Nat → Nat} {k x n : Nat} (h : n ≤ k) : dr_sm (dr_up f k x) n = dr_sm f n := dr_sm_c n (fun i hi => dr_un (by omega))
section
variable {f_isOpen f_begun f_ended f_noteCount f_tagEntries f_tagCount f_valueEntries f_valueCount f_openGroups f_openValues f_groupCount f_found f_passed : Int32} {a_noteThere a_notes a_tagAgain a_tagDepth a_tags a_valueAgain a_valueDepth a_values : Nat → Int32}
variable {g_records g_open g_allGroups g_allValues : Int32} {b_noted b_notes b_groupsOf b_tagged b_tags b_valuesOf b_values : Nat → Int32}
variable {E : Nat} {gn vn tg nd : Nat → Nat}
section
variable {h : Nat} {p1 : Int32}
theorem dr_bg_G (hG : dr_G E 0 gn vn tg nd) (h12 : E < 12) (hh : h ≤ 1) : dr_G E 1 gn vn tg (dr_up nd E h) := by
  refine ⟨⟨by omega, by omega⟩, ⟨dr_G_g hG, fun r hr => dr_G_g0 hG (by omega)⟩, hG.2.2.1, hG.2.2.2.1, ⟨fun r => ?_, fun r hr => ?_⟩, hG.2.2.2.2.2⟩
  · by_cases e : r = E
    · rw [e, dr_us]
      exact hh
    · rw [dr_un e]
      exact dr_G_n hG r
  · rw [dr_un (by omega)]
    exact dr_G_n0 hG (by omega)
theorem dr_bg_X (hG : dr_G E 0 gn vn tg nd) (hX : dr_X E 0 gn vn tg nd f_isOpen f_begun f_ended f_noteCount f_tagEntries f_tagCount f_valueEntries f_valueCount f_openGroups f_openValues f_groupCount a_noteThere a_tagAgain a_tagDepth a_valueAgain a_valueDepth) : dr_X E 1 gn vn tg (dr_up nd E h) 1 (nI (E + 1)) f_ended (nI (dr_sm nd E + h)) f_tagEntries f_tagCount f_valueEntries f_valueCount 0 f_openValues f_groupCount (upd a_noteThere E (nI h)) a_tagAgain a_tagDepth a_valueAgain a_valueDepth := by
  have hg : gn E = 0 := dr_G_g0 hG (by omega)
  refine ⟨⟨rfl, rfl, hX.1.2.2.1, ?_⟩, hX.2.1, hX.2.2.1, ⟨fun _ => ?_, fun z => by omega⟩, ⟨dr_uu hX.2.2.2.2.1 E h, hX.2.2.2.2.2⟩⟩
  · rw [dr_sm_s, dr_sm_up (Nat.le_refl _), dr_us]
  · rw [hg]
    rfl
theorem dr_bg_Y (hY : dr_Y E 0 gn vn tg nd g_records g_open g_allGroups g_allValues b_noted b_groupsOf b_tagged b_valuesOf) : dr_Y E 1 gn vn tg (dr_up nd E h) (nI (E + 1)) 1 g_allGroups g_allValues (upd b_noted E (nI h)) b_groupsOf b_tagged b_valuesOf :=
  ⟨⟨rfl, rfl, hY.1.2.2⟩, ⟨dr_uu hY.2.1 E h, hY.2.2⟩⟩
theorem dr_bg_L (hG : dr_G E 0 gn vn tg nd) (hh : h ≤ 1) (hL : dr_L vn tg nd a_notes a_tags a_values b_notes b_tags b_values) : dr_L vn tg (dr_up nd E h) (if h = 1 then upd a_notes (dr_sm nd E) p1 else a_notes) a_tags a_values (upd b_notes E (if h = 1 then p1 else 0)) b_tags b_values := by
  refine ⟨⟨fun r hr => ?_, fun r hr => ?_⟩, hL.2⟩
  · by_cases e : r = E
    · subst e
      rw [dr_us] at hr
      rw [dr_sm_up (Nat.le_refl _), if_pos hr, if_pos hr, pk_us, pk_us]
    · rw [dr_un e] at hr
      have hlt : r < E := by
        by_cases z : r < E
        · exact z
        · have := dr_G_n0 hG (r := r) (by omega)
          omega
      have hs := dr_sm_al nd hlt
      have e2 : (if h = 1 then upd a_notes (dr_sm nd E) p1 else a_notes) (dr_sm nd r) = a_notes (dr_sm nd r) := by
        split
        · exact pk_un (by omega)
        · rfl
      rw [dr_sm_up (by omega), pk_un e, e2]
      exact hL.1.1 r hr
  · by_cases e : r = E
    · subst e
      rw [dr_us] at hr
      rw [pk_us, if_neg (by omega)]
    · rw [dr_un e] at hr
      rw [pk_un e]
      exact hL.1.2 r hr
end
section
variable {h : Nat} {p1 : Int32}
theorem dr_gp_k {a : Nat} (ha : a ≠ dr_M E gn) : (a % 4 < dr_up gn E (gn E + 1) (a / 4)) ↔ (a % 4 < gn (a / 4)) := by
  by_cases e : a / 4 = E
  · rw [e, dr_us]
    unfold dr_M at ha
    omega
  · rw [dr_un e]
theorem dr_gp_rl {a : Nat} (ha : a ≠ dr_M E gn) : dr_rl (dr_up gn E (gn E + 1)) a = dr_rl gn a := by
  simp only [dr_rl, dr_gp_k ha]
theorem dr_gp_wT {a : Nat} (ha : a ≠ dr_M E gn) : dr_wT (dr_up gn E (gn E + 1)) a = dr_wT gn a := by
  simp only [dr_wT, dr_gp_k ha]
theorem dr_gp_td {a : Nat} (ha : a ≠ dr_M E gn) : dr_td (dr_up gn E (gn E + 1)) (dr_up tg (dr_M E gn) h) a = dr_td gn tg a := by
  simp only [dr_td, dr_gp_k ha, dr_un ha]
theorem dr_gp_wV {a : Nat} (ha : a ≠ dr_M E gn) : dr_wV (dr_up gn E (gn E + 1)) vn a = dr_wV gn vn a := by
  simp only [dr_wV, dr_gp_wT ha]
theorem dr_gp_vd {a : Nat} (ha : a ≠ dr_M E gn) : dr_vd (dr_up gn E (gn E + 1)) vn a = dr_vd gn vn a := by
  simp only [dr_vd, dr_gp_rl ha]
theorem dr_gp_M : dr_M E (dr_up gn E (gn E + 1)) = dr_M E gn + 1 := by
  unfold dr_M
  rw [dr_us]
  omega
theorem dr_gp_m (hg : gn E < 4) : dr_M E gn % 4 < dr_up gn E (gn E + 1) (dr_M E gn / 4) := by
  rw [show dr_M E gn / 4 = E from by unfold dr_M; omega, dr_us]
  unfold dr_M
  omega
theorem dr_gp_n (hg : gn E < 4) : ¬ dr_M E gn % 4 < gn (dr_M E gn / 4) := by
  rw [show dr_M E gn / 4 = E from by unfold dr_M; omega]
  unfold dr_M
  omega
theorem dr_gp_v0 (hG : dr_G E 1 gn vn tg nd) (hg : gn E < 4) : vn (dr_M E gn) = 0 := by
  by_cases z : 0 < vn (dr_M E gn)
  · exact absurd (dr_G_vr hG _ z) (dr_gp_n hg)
  · omega
theorem dr_gp_sr (hg : gn E < 4) : dr_sm (dr_rl (dr_up gn E (gn E + 1))) (dr_M E gn + 1) = dr_sm (dr_rl gn) (dr_M E gn) + 1 := by
  have e : dr_rl (dr_up gn E (gn E + 1)) (dr_M E gn) = 1 := if_pos (dr_gp_m hg)
  rw [dr_sm_s, e, dr_sm_c (dr_M E gn) (fun i hi => dr_gp_rl (by omega))]
theorem dr_gp_sT (hg : gn E < 4) : dr_sm (dr_wT (dr_up gn E (gn E + 1))) (dr_M E gn + 1) = dr_sm (dr_wT gn) (dr_M E gn) + 1 := by
  rw [dr_sm_s, dr_wT_r (dr_gp_m hg), dr_sm_c (dr_M E gn) (fun i hi => dr_gp_wT (by omega))]
theorem dr_gp_G (hG : dr_G E 1 gn vn tg nd) (hg : gn E < 4) (h40 : dr_sm (dr_rl gn) (dr_M E gn) < 40) (hh : h ≤ 1) : dr_G E 1 (dr_up gn E (gn E + 1)) vn (dr_up tg (dr_M E gn) h) nd := by
  have mono : ∀ r, gn r ≤ dr_up gn E (gn E + 1) r := by
    intro r
    by_cases e : r = E
    · rw [e, dr_us]
      omega
    · rw [dr_un e]
      exact Nat.le_refl _
  refine ⟨hG.1, ⟨fun r => ?_, fun r hr => ?_⟩, ⟨dr_G_v hG, fun a ha => ?_⟩, ⟨fun a => ?_, fun a ha => ?_⟩, hG.2.2.2.2.1, ⟨?_, ?_⟩⟩
  · by_cases e : r = E
    · rw [e, dr_us]
      omega
    · rw [dr_un e]
      exact dr_G_g hG r
  · rw [dr_un (by omega)]
    exact dr_G_g0 hG hr
  · exact Nat.lt_of_lt_of_le (dr_G_vr hG a ha) (mono _)
  · by_cases e : a = dr_M E gn
    · rw [e, dr_us]
      exact hh
    · rw [dr_un e]
      exact dr_G_t hG a
  · by_cases e : a = dr_M E gn
    · rw [e]
      exact dr_gp_m hg
    · rw [dr_un e] at ha
      exact Nat.lt_of_lt_of_le (dr_G_tr hG a ha) (mono _)
  · rw [dr_gp_M, dr_gp_sr hg]
    omega
  · rw [dr_gp_M, dr_sm_s, dr_gp_v0 hG hg]
    exact dr_G_60 hG
theorem dr_gp_Mv (hG : dr_G E 1 gn vn tg nd) (hg : gn E < 4) : dr_Mv E (dr_up gn E (gn E + 1)) vn = dr_M E gn := by
  have h0 := dr_gp_v0 hG hg
  unfold dr_Mv
  rw [dr_us]
  unfold dr_M at h0 ⊢
  rw [show 4 * E + (gn E + 1) - 1 = 4 * E + gn E from by omega, if_pos ⟨by omega, h0⟩]
theorem dr_gp_X {vE : Int32} {vA vD : Nat → Int32} (hG : dr_G E 1 gn vn tg nd) (hX : dr_X E 1 gn vn tg nd f_isOpen f_begun f_ended f_noteCount f_tagEntries f_tagCount f_valueEntries f_valueCount f_openGroups f_openValues f_groupCount a_noteThere a_tagAgain a_tagDepth a_valueAgain a_valueDepth) (hg : gn E < 4) (hvE : vE = nI (dr_sm (dr_wV gn vn) (dr_M E gn))) (hvC : dr_VC (dr_M E gn) gn vn vA vD) : dr_X E 1 (dr_up gn E (gn E + 1)) vn (dr_up tg (dr_M E gn) h) nd f_isOpen f_begun f_ended f_noteCount (nI (dr_sm (dr_wT gn) (dr_M E gn) + 1)) (nI (dr_sm tg (dr_M E gn) + h)) vE f_valueCount (nI (gn E + 1)) 0 (nI (dr_sm (dr_rl gn) (dr_M E gn) + 1)) a_noteThere (upd a_tagAgain (dr_sm (dr_wT gn) (dr_M E gn)) (nI (dr_ag (dr_M E gn)))) (upd a_tagDepth (dr_sm (dr_wT gn) (dr_M E gn)) (nI (1 + h))) vA vD := by
  have hwT : ∀ a, a < dr_M E gn → dr_wT (dr_up gn E (gn E + 1)) a = dr_wT gn a := fun a ha => dr_gp_wT (by omega)
  have hwV : ∀ a, a < dr_M E gn → dr_wV (dr_up gn E (gn E + 1)) vn a = dr_wV gn vn a := fun a ha => dr_gp_wV (by omega)
  refine ⟨hX.1, ⟨?_, ?_⟩, ⟨?_, ?_, ?_⟩, ⟨fun _ => ?_, fun _ => ?_⟩, ⟨hX.2.2.2.2.1, ?_, ?_⟩⟩
  · rw [dr_gp_M, dr_gp_sT hg]
  · rw [dr_gp_M, dr_sm_s, dr_us, dr_sm_up (Nat.le_refl _)]
  · rw [dr_gp_Mv hG hg, dr_sm_c (dr_M E gn) hwV]
    exact hvE
  · rw [dr_gp_M, dr_sm_s, dr_gp_v0 hG hg]
    exact hX.2.2.1.2.1
  · rw [dr_gp_M, dr_gp_sr hg]
  · rw [dr_us]
  · rw [dr_gp_M, Nat.add_sub_cancel, dr_gp_v0 hG hg]
    rfl
  · have h1 : dr_TC (dr_M E gn) (dr_up gn E (gn E + 1)) (dr_up tg (dr_M E gn) h) a_tagAgain a_tagDepth := dr_TC_c hX.2.2.2.2.2.1 hwT (fun a ha => dr_gp_td (by omega))
    have h2 := dr_TC_add (p0 := nI (dr_ag (dr_M E gn))) (p1 := nI (1 + h)) h1 (dr_wT_r (dr_gp_m hg)) rfl (by unfold dr_td; rw [if_pos (dr_gp_m hg), dr_us])
    rw [dr_sm_c (dr_M E gn) hwT] at h2
    rw [dr_gp_M]
    exact h2
  · rw [dr_gp_Mv hG hg]
    exact dr_VC_c hvC hwV (fun a ha => dr_gp_vd (by omega))
theorem dr_gp_Y (hG : dr_G E 1 gn vn tg nd) (hY : dr_Y E 1 gn vn tg nd g_records g_open g_allGroups g_allValues b_noted b_groupsOf b_tagged b_valuesOf) (hg : gn E < 4) : dr_Y E 1 (dr_up gn E (gn E + 1)) vn (dr_up tg (dr_M E gn) h) nd g_records g_open (nI (dr_sm (dr_rl gn) (dr_M E gn) + 1)) g_allValues b_noted (upd b_groupsOf E (nI (gn E + 1))) (upd b_tagged (dr_M E gn) (nI h)) b_valuesOf := by
  refine ⟨⟨hY.1.1, hY.1.2.1, ?_, ?_⟩, ⟨hY.2.1, dr_uu hY.2.2.1 _ _, dr_uu hY.2.2.2.1 _ _, hY.2.2.2.2⟩⟩
  · rw [dr_gp_M, dr_gp_sr hg]
  · rw [dr_gp_M, dr_sm_s, dr_gp_v0 hG hg]
    exact hY.1.2.2.2
theorem dr_gp_L (hG : dr_G E 1 gn vn tg nd) (hh : h ≤ 1) (hL : dr_L vn tg nd a_notes a_tags a_values b_notes b_tags b_values) : dr_L vn (dr_up tg (dr_M E gn) h) nd a_notes (if h = 1 then upd a_tags (dr_sm tg (dr_M E gn)) p1 else a_tags) a_values b_notes (upd b_tags (dr_M E gn) (if h = 1 then p1 else 0)) b_values := by
  refine ⟨hL.1, ⟨fun a ha => ?_, fun a ha => ?_⟩, hL.2.2⟩
  · by_cases e : a = dr_M E gn
    · subst e
      rw [dr_us] at ha
      rw [dr_sm_up (Nat.le_refl _), if_pos ha, if_pos ha, pk_us, pk_us]
    · rw [dr_un e] at ha
      have hlt : a < dr_M E gn := dr_real hG (dr_G_tr hG a (by omega))
      have hs := dr_sm_al tg hlt
      have e2 : (if h = 1 then upd a_tags (dr_sm tg (dr_M E gn)) p1 else a_tags) (dr_sm tg a) = a_tags (dr_sm tg a) := by
        split
        · exact pk_un (by omega)
        · rfl
      rw [dr_sm_up (by omega), pk_un e, e2]
      exact hL.2.1.1 a ha
  · by_cases e : a = dr_M E gn
    · subst e
      rw [dr_us] at ha
      rw [pk_us, if_neg (by omega)]
    · rw [dr_un e] at ha
      rw [pk_un e]
      exact hL.2.1.2 a ha
end
section
variable {op c : Nat} {p0 : Int32}
theorem dr_va_G (hG : dr_G E op gn vn tg nd) (hc : c + 1 = dr_M E gn) (hr : c % 4 < gn (c / 4)) (hv : vn c < 4) (h60 : dr_sm vn (dr_M E gn) < 60) : dr_G E op gn (dr_up vn c (vn c + 1)) tg nd := by
  refine ⟨hG.1, hG.2.1, ⟨fun a => ?_, fun a ha => ?_⟩, hG.2.2.2.1, hG.2.2.2.2.1, ⟨dr_G_40 hG, ?_⟩⟩
  · by_cases e : a = c
    · rw [e, dr_us]
      omega
    · rw [dr_un e]
      exact dr_G_v hG a
  · by_cases e : a = c
    · rw [e]
      exact hr
    · rw [dr_un e] at ha
      exact dr_G_vr hG a ha
  · rw [← hc, dr_sm_s] at h60
    rw [← hc, dr_sm_s, dr_us, dr_sm_up (Nat.le_refl _)]
    omega
theorem dr_va_s (hc : c + 1 = dr_M E gn) : dr_sm (dr_up vn c (vn c + 1)) (dr_M E gn) = dr_sm vn (dr_M E gn) + 1 := by
  rw [← hc, dr_sm_s, dr_sm_s, dr_us, dr_sm_up (Nat.le_refl _)]
  omega
theorem dr_va_X (hX : dr_X E op gn vn tg nd f_isOpen f_begun f_ended f_noteCount f_tagEntries f_tagCount f_valueEntries f_valueCount f_openGroups f_openValues f_groupCount a_noteThere a_tagAgain a_tagDepth a_valueAgain a_valueDepth) (hg : 0 < gn E) (hc : c + 1 = dr_M E gn) : dr_X E op gn (dr_up vn c (vn c + 1)) tg nd f_isOpen f_begun f_ended f_noteCount f_tagEntries f_tagCount (nI (dr_sm (dr_wV gn vn) c + vn c + 1)) (nI (dr_sm vn (dr_M E gn) + 1)) f_openGroups (nI (vn c + 1)) f_groupCount a_noteThere a_tagAgain a_tagDepth (upd a_valueAgain (dr_sm (dr_wV gn vn) c + vn c) (nI (dr_va c (vn c)))) (upd a_valueDepth (dr_sm (dr_wV gn vn) c + vn c) 2) := by
  have ec : dr_M E gn - 1 = c := by omega
  have ec' : 4 * E + gn E - 1 = c := ec
  have eMv : dr_Mv E gn (dr_up vn c (vn c + 1)) = dr_M E gn := by
    unfold dr_Mv
    rw [ec', dr_us, if_neg (by omega)]
    rfl
  have eMo : dr_Mv E gn vn = if vn c = 0 then c else c + 1 := by
    unfold dr_Mv
    rw [ec']
    by_cases z : vn c = 0
    · rw [if_pos z, if_pos ⟨hg, z⟩]
    · rw [if_neg z, if_neg (fun y => z y.2)]
      exact hc.symm
  have hw : ∀ a, a < c → dr_wV gn (dr_up vn c (vn c + 1)) a = dr_wV gn vn a := by
    intro a ha
    unfold dr_wV
    rw [dr_un (by omega)]
  refine ⟨hX.1, hX.2.1, ⟨?_, ?_, hX.2.2.1.2.2⟩, ⟨hX.2.2.2.1.1, fun _ => ?_⟩, ⟨hX.2.2.2.2.1, hX.2.2.2.2.2.1, ?_⟩⟩
  · rw [eMv, ← hc, dr_sm_s, dr_sm_c c hw, dr_wV_v (by rw [dr_us]; omega), dr_us]
    exact congrArg nI (by omega)
  · rw [dr_va_s hc]
  · rw [ec, dr_us]
  · have h1 := hX.2.2.2.2.2.2
    rw [eMo] at h1
    rw [eMv, ← hc]
    exact dr_VC_val h1
theorem dr_va_Y (hY : dr_Y E op gn vn tg nd g_records g_open g_allGroups g_allValues b_noted b_groupsOf b_tagged b_valuesOf) (hc : c + 1 = dr_M E gn) : dr_Y E op gn (dr_up vn c (vn c + 1)) tg nd g_records g_open g_allGroups (nI (dr_sm vn (dr_M E gn) + 1)) b_noted b_groupsOf b_tagged (upd b_valuesOf c (nI (vn c + 1))) := by
  refine ⟨⟨hY.1.1, hY.1.2.1, hY.1.2.2.1, ?_⟩, ⟨hY.2.1, hY.2.2.1, hY.2.2.2.1, dr_uu hY.2.2.2.2 _ _⟩⟩
  rw [dr_va_s hc]
theorem dr_va_L (hG : dr_G E op gn vn tg nd) (hL : dr_L vn tg nd a_notes a_tags a_values b_notes b_tags b_values) (hc : c + 1 = dr_M E gn) (hv : vn c < 4) : dr_L (dr_up vn c (vn c + 1)) tg nd a_notes a_tags (upd a_values (dr_sm vn (dr_M E gn)) p0) b_notes b_tags (upd b_values (4 * c + vn c) p0) := by
  have es : dr_sm vn (dr_M E gn) = dr_sm vn c + vn c := by rw [← hc, dr_sm_s]
  rw [es]
  refine ⟨hL.1, hL.2.1, fun a j hj => ?_⟩
  by_cases e : a = c
  · subst e
    rw [dr_us] at hj
    rw [dr_sm_up (Nat.le_refl _)]
    by_cases ej : j = vn a
    · subst ej
      rw [pk_us, pk_us]
    · rw [pk_un (by omega), pk_un (by omega)]
      exact hL.2.2 a j (by omega)
  · rw [dr_un e] at hj
    have hlt : a < dr_M E gn := dr_real hG (dr_G_vr hG a (by omega))
    have hv4 := dr_G_v hG a
    have hs := dr_sm_al vn (a := a) (b := c) (by omega)
    rw [dr_sm_up (by omega), pk_un (by omega), pk_un (by omega)]
    exact hL.2.2 a j hj
end
section
theorem dr_en_M (hG : dr_G E 1 gn vn tg nd) : dr_M (E + 1) gn = 4 * E + 4 := by
  have h0 : gn (E + 1) = 0 := dr_G_g0 hG (by omega)
  unfold dr_M
  omega
theorem dr_en_Mv (hG : dr_G E 1 gn vn tg nd) : dr_Mv (E + 1) gn vn = 4 * E + 4 := by
  have h0 : gn (E + 1) = 0 := dr_G_g0 hG (by omega)
  unfold dr_Mv
  rw [if_neg (by omega)]
  omega
theorem dr_en_s (hG : dr_G E 1 gn vn tg nd) {f : Nat → Nat} (hf : ∀ a, 0 < f a → a % 4 < gn (a / 4)) : dr_sm f (dr_M (E + 1) gn) = dr_sm f (dr_M E gn) := by
  have h4 := dr_G_g hG E
  rw [dr_en_M hG]
  refine dr_sm_0 (4 * E + 4) (by unfold dr_M; omega) (fun a h1 h2 => ?_)
  by_cases z : 0 < f a
  · have := dr_real hG (hf a z)
    omega
  · omega
theorem dr_en_r {a : Nat} (h : 0 < dr_rl gn a) : a % 4 < gn (a / 4) := by
  unfold dr_rl at h
  split at h
  · assumption
  · omega
theorem dr_en_G (hG : dr_G E 1 gn vn tg nd) : dr_G (E + 1) 0 gn vn tg nd := by
  refine ⟨⟨(dr_G_E hG).1, by omega⟩, hG.2.1, hG.2.2.1, hG.2.2.2.1, hG.2.2.2.2.1, ⟨?_, ?_⟩⟩
  · rw [dr_en_s hG (fun a => dr_en_r)]
    exact dr_G_40 hG
  · rw [dr_en_s hG (dr_G_vr hG)]
    exact dr_G_60 hG
theorem dr_en_X {tE vE : Int32} {tA tD vA vD : Nat → Int32} (hG : dr_G E 1 gn vn tg nd) (hX : dr_X E 1 gn vn tg nd f_isOpen f_begun f_ended f_noteCount f_tagEntries f_tagCount f_valueEntries f_valueCount f_openGroups f_openValues f_groupCount a_noteThere a_tagAgain a_tagDepth a_valueAgain a_valueDepth) (hTE : tE = nI (dr_sm (dr_wT gn) (4 * E + 4))) (hTC : dr_TC (4 * E + 4) gn tg tA tD) (hVE : vE = nI (dr_sm (dr_wV gn vn) (4 * E + 4))) (hVC : dr_VC (4 * E + 4) gn vn vA vD) : dr_X (E + 1) 0 gn vn tg nd 0 f_begun (nI (E + 1)) f_noteCount tE f_tagCount vE f_valueCount f_openGroups f_openValues f_groupCount a_noteThere tA tD vA vD := by
  have h0 : gn (E + 1) = 0 := dr_G_g0 hG (by omega)
  refine ⟨⟨rfl, hX.1.2.1, rfl, hX.1.2.2.2⟩, ⟨?_, ?_⟩, ⟨?_, ?_, ?_⟩, ⟨fun z => absurd z Nat.zero_ne_one, fun z => by omega⟩, ⟨hX.2.2.2.2.1, ?_, ?_⟩⟩
  · rw [dr_en_M hG]
    exact hTE
  · rw [dr_en_s hG (dr_G_tr hG)]
    exact hX.2.1.2
  · rw [dr_en_Mv hG]
    exact hVE
  · rw [dr_en_s hG (dr_G_vr hG)]
    exact hX.2.2.1.2.1
  · rw [dr_en_s hG (fun a => dr_en_r)]
    exact hX.2.2.1.2.2
  · rw [dr_en_M hG]
    exact hTC
  · rw [dr_en_Mv hG]
    exact hVC
theorem dr_en_Y (hG : dr_G E 1 gn vn tg nd) (hY : dr_Y E 1 gn vn tg nd g_records g_open g_allGroups g_allValues b_noted b_groupsOf b_tagged b_valuesOf) : dr_Y (E + 1) 0 gn vn tg nd g_records 0 g_allGroups g_allValues b_noted b_groupsOf b_tagged b_valuesOf := by
  refine ⟨⟨hY.1.1, rfl, ?_, ?_⟩, hY.2⟩
  · rw [dr_en_s hG (fun a => dr_en_r)]
    exact hY.1.2.2.1
  · rw [dr_en_s hG (dr_G_vr hG)]
    exact hY.1.2.2.2
end
end
end
section
/-! the reading methods of both sides, case by case -/
theorem dr_ended (E : Nat) (hE : E ≤ 12) (p0 : Int32) : (p0 < 0 ∨ nI E ≤ p0) ∨ ∃ r : Nat, r < E ∧ p0 = nI r := by
  cases pk_ix p0 (n := E) (by omega) with
  | inl h => exact Or.inl (Or.inl h)
  | inr h => cases h with
    | inl h => exact Or.inl (Or.inr h)
    | inr h => exact Or.inr h
theorem dr_nm1 {q : Nat} (hq : q < 2 ^ 31) : ¬ nI q = -1 := by
  intro z
  have h := nI_pos hq
  rw [z] at h
  exact h (by decide)
section
variable {f_isOpen f_begun f_ended f_noteCount f_tagEntries f_tagCount f_valueEntries f_valueCount f_openGroups f_openValues f_groupCount f_found f_passed : Int32} {a_noteThere a_notes a_tagAgain a_tagDepth a_tags a_valueAgain a_valueDepth a_values : Nat → Int32}
variable {E op : Nat} {gn vn tg nd : Nat → Nat} {b_notes b_tags b_values : Nat → Int32}
theorem dr_xnl {post : Int32 → Prop} {r : Nat} (hN : ∀ r, a_noteThere r = nI (nd r)) (hn : ∀ r, nd r ≤ 1) (hr : r ≤ 12) (hp : post (nI (dr_sm nd r))) : ∀ d n i, i + d = r → d < n → wX_notesBefore_4 post (nI r) f_isOpen f_begun f_ended f_noteCount f_tagEntries f_tagCount f_valueEntries f_valueCount f_openGroups f_openValues f_groupCount f_found f_passed a_noteThere a_notes a_tagAgain a_tagDepth a_tags a_valueAgain a_valueDepth a_values n (nI (dr_sm nd i)) (nI i) := by
  intro d
  induction d with
  | zero =>
    intro n i e h
    obtain ⟨n, rfl⟩ : ∃ m, n = m + 1 := ⟨n - 1, by omega⟩
    have e' : i = r := by omega
    subst e'
    exact br_t (nI_le (Nat.le_refl _) (by omega)) hp
  | succ d ih =>
    intro n i e h
    obtain ⟨n, rfl⟩ : ∃ m, n = m + 1 := ⟨n - 1, by omega⟩
    have J := ih n (i + 1) (by omega) (by omega)
    have h1 := hn i
    have ec : a_noteThere (nI i).toNatClampNeg = nI (nd i) := by rw [nI_clamp (by omega)]; exact hN i
    refine br_f (nI_ge (by omega) (by omega)) (And.intro (vp_in_nI (by omega) (by omega)) ?_)
    by_cases h0 : nd i = 0
    · rw [dr_sm_s, h0] at J
      refine br_t ?_ (nm_r (Int32.add_zero _) (nm_r (nI_1 i) J))
      rw [ec, h0]
      exact nI_0
    · rw [dr_sm_s, show nd i = 1 from by omega] at J
      refine br_f ?_ (nm_r (nI_1 _) (nm_r (nI_1 i) J))
      rw [ec]
      exact nI_ne0 (by omega) (by omega)
theorem dr_xnb {post : Int32 → Prop} {r : Nat} (hN : ∀ r, a_noteThere r = nI (nd r)) (hn : ∀ r, nd r ≤ 1) (hr : r ≤ 12) (hp : post (nI (dr_sm nd r))) : wpX_notesBefore post (f_isOpen, f_begun, f_ended, f_noteCount, f_tagEntries, f_tagCount, f_valueEntries, f_valueCount, f_openGroups, f_openValues, f_groupCount, f_found, f_passed, a_noteThere, a_notes, a_tagAgain, a_tagDepth, a_tags, a_valueAgain, a_valueDepth, a_values) (nI r) :=
  Exists.intro (r + 1) (dr_xnl hN hn hr hp r (r + 1) 0 (by omega) (by omega))
theorem dr_xva0 {post : Int32 → SX → Prop} {p0 p1 p2 : Int32} (hG : dr_G E op gn vn tg nd) (hX : dr_X E op gn vn tg nd f_isOpen f_begun f_ended f_noteCount f_tagEntries f_tagCount f_valueEntries f_valueCount f_openGroups f_openValues f_groupCount a_noteThere a_tagAgain a_tagDepth a_valueAgain a_valueDepth) (h : ¬ dr_ok E gn p0 p1) (hp : ∀ fo pa, post 0 (f_isOpen, f_begun, f_ended, f_noteCount, f_tagEntries, f_tagCount, f_valueEntries, f_valueCount, f_openGroups, f_openValues, f_groupCount, fo, pa, a_noteThere, a_notes, a_tagAgain, a_tagDepth, a_tags, a_valueAgain, a_valueDepth, a_values)) : wpX_valueAt post (f_isOpen, f_begun, f_ended, f_noteCount, f_tagEntries, f_tagCount, f_valueEntries, f_valueCount, f_openGroups, f_openValues, f_groupCount, f_found, f_passed, a_noteThere, a_notes, a_tagAgain, a_tagDepth, a_tags, a_valueAgain, a_valueDepth, a_values) p0 p1 p2 := by
  unfold wpX_valueAt
  exact dr_xig_f hG hX h (fun fo pa => br_t rfl (hp fo pa))
theorem dr_xva1 {post : Int32 → SX → Prop} {p2 : Int32} (hG : dr_G E op gn vn tg nd) (hX : dr_X E op gn vn tg nd f_isOpen f_begun f_ended f_noteCount f_tagEntries f_tagCount f_valueEntries f_valueCount f_openGroups f_openValues f_groupCount a_noteThere a_tagAgain a_tagDepth a_valueAgain a_valueDepth) {r q : Nat} (hr : r < E) (hq : q < gn r) (h2 : p2 < 0 ∨ nI (vn (4 * r + q)) ≤ p2) (hp : ∀ fo pa, post 0 (f_isOpen, f_begun, f_ended, f_noteCount, f_tagEntries, f_tagCount, f_valueEntries, f_valueCount, f_openGroups, f_openValues, f_groupCount, fo, pa, a_noteThere, a_notes, a_tagAgain, a_tagDepth, a_tags, a_valueAgain, a_valueDepth, a_values)) : wpX_valueAt post (f_isOpen, f_begun, f_ended, f_noteCount, f_tagEntries, f_tagCount, f_valueEntries, f_valueCount, f_openGroups, f_openValues, f_groupCount, f_found, f_passed, a_noteThere, a_notes, a_tagAgain, a_tagDepth, a_tags, a_valueAgain, a_valueDepth, a_values) (nI r) (nI q) p2 := by
  unfold wpX_valueAt
  refine dr_xig_t hG hX hr hq (fun fo pa => br_f (by decide) ?_)
  by_cases h0 : p2 < 0
  · exact br_t h0 (hp _ _)
  · refine br_f h0 ?_
    refine dr_xvs_t hG hX hr hq (fun fo pa => br_f ?_ (hp _ _))
    cases h2 with
    | inl h => exact absurd h h0
    | inr h => exact Int32.not_lt.mpr h
theorem dr_xva2 {post : Int32 → SX → Prop} (hG : dr_G E op gn vn tg nd) (hX : dr_X E op gn vn tg nd f_isOpen f_begun f_ended f_noteCount f_tagEntries f_tagCount f_valueEntries f_valueCount f_openGroups f_openValues f_groupCount a_noteThere a_tagAgain a_tagDepth a_valueAgain a_valueDepth) (hL : dr_L vn tg nd a_notes a_tags a_values b_notes b_tags b_values) {r q j : Nat} (hr : r < E) (hq : q < gn r) (hj : j < vn (4 * r + q)) (hp : ∀ fo pa, post (b_values (4 * (4 * r + q) + j)) (f_isOpen, f_begun, f_ended, f_noteCount, f_tagEntries, f_tagCount, f_valueEntries, f_valueCount, f_openGroups, f_openValues, f_groupCount, fo, pa, a_noteThere, a_notes, a_tagAgain, a_tagDepth, a_tags, a_valueAgain, a_valueDepth, a_values)) : wpX_valueAt post (f_isOpen, f_begun, f_ended, f_noteCount, f_tagEntries, f_tagCount, f_valueEntries, f_valueCount, f_openGroups, f_openValues, f_groupCount, f_found, f_passed, a_noteThere, a_notes, a_tagAgain, a_tagDepth, a_tags, a_valueAgain, a_valueDepth, a_values) (nI r) (nI q) (nI j) := by
  have hE := dr_G_E hG
  have hg := dr_G_g hG r
  have hv := dr_G_v hG (4 * r + q)
  have h60 := dr_G_60 hG
  have hlt : 4 * r + q < dr_M E gn := by
    unfold dr_M
    omega
  have hs := dr_sm_al vn hlt
  unfold wpX_valueAt
  refine dr_xig_t hG hX hr hq (fun fo pa => br_f (by decide) (br_f (nI_pos (by omega)) ?_))
  refine dr_xvs_t hG hX hr hq (fun fo pa => br_t (nI_lt hj (by omega)) ?_)
  refine dr_xfv_t hG hX hr hq ?_
  have e : nI (dr_sm vn (4 * r + q)) + nI j = nI (dr_sm vn (4 * r + q) + j) := nI_add _ _
  have hi : vp_in (nI (dr_sm vn (4 * r + q)) + nI j) 60 := by rw [e]; exact vp_in_nI (by omega) (by omega)
  have ev : a_values (nI (dr_sm vn (4 * r + q)) + nI j).toNatClampNeg = b_values (4 * (4 * r + q) + j) := by
    rw [e, nI_clamp (by omega)]
    exact hL.2.2 _ _ hj
  refine And.intro hi ?_
  have hP := hp (nI (dr_sm (dr_wV gn vn) (4 * r + q))) (nI (dr_sm vn (4 * r + q)))
  rw [← ev] at hP
  exact hP
theorem dr_xlb0 {post : Int32 → SX → Prop} {p0 p1 : Int32} (hX : dr_X E op gn vn tg nd f_isOpen f_begun f_ended f_noteCount f_tagEntries f_tagCount f_valueEntries f_valueCount f_openGroups f_openValues f_groupCount a_noteThere a_tagAgain a_tagDepth a_valueAgain a_valueDepth) (h : p0 < 0 ∨ nI E ≤ p0) (hp : post 0 (f_isOpen, f_begun, f_ended, f_noteCount, f_tagEntries, f_tagCount, f_valueEntries, f_valueCount, f_openGroups, f_openValues, f_groupCount, f_found, f_passed, a_noteThere, a_notes, a_tagAgain, a_tagDepth, a_tags, a_valueAgain, a_valueDepth, a_values)) : wpX_label post (f_isOpen, f_begun, f_ended, f_noteCount, f_tagEntries, f_tagCount, f_valueEntries, f_valueCount, f_openGroups, f_openValues, f_groupCount, f_found, f_passed, a_noteThere, a_notes, a_tagAgain, a_tagDepth, a_tags, a_valueAgain, a_valueDepth, a_values) p0 p1 := by
  unfold wpX_label
  exact dr_xie_f hX h (br_t rfl hp)
theorem dr_xlb1 {post : Int32 → SX → Prop} (hG : dr_G E op gn vn tg nd) (hX : dr_X E op gn vn tg nd f_isOpen f_begun f_ended f_noteCount f_tagEntries f_tagCount f_valueEntries f_valueCount f_openGroups f_openValues f_groupCount a_noteThere a_tagAgain a_tagDepth a_valueAgain a_valueDepth) (hL : dr_L vn tg nd a_notes a_tags a_values b_notes b_tags b_values) {r : Nat} (hr : r < E) (hp : post (b_notes r) (f_isOpen, f_begun, f_ended, f_noteCount, f_tagEntries, f_tagCount, f_valueEntries, f_valueCount, f_openGroups, f_openValues, f_groupCount, f_found, f_passed, a_noteThere, a_notes, a_tagAgain, a_tagDepth, a_tags, a_valueAgain, a_valueDepth, a_values)) : wpX_label post (f_isOpen, f_begun, f_ended, f_noteCount, f_tagEntries, f_tagCount, f_valueEntries, f_valueCount, f_openGroups, f_openValues, f_groupCount, f_found, f_passed, a_noteThere, a_notes, a_tagAgain, a_tagDepth, a_tags, a_valueAgain, a_valueDepth, a_values) (nI r) (-1) := by
  have hE := dr_G_E hG
  have h1 := dr_G_n hG r
  have hb := dr_sm_1 (dr_G_n hG) r
  have ec : a_noteThere (nI r).toNatClampNeg = nI (nd r) := by rw [nI_clamp (by omega)]; exact hX.2.2.2.2.1 r
  unfold wpX_label
  refine dr_xie_t hG hX hr (br_f (by decide) (br_t rfl (And.intro (vp_in_nI (by omega) (by omega)) ?_)))
  by_cases h0 : nd r = 0
  · rw [hL.1.2 r h0] at hp
    refine br_t ?_ hp
    rw [ec, h0]
    exact nI_0
  · refine br_f ?_ ?_
    · rw [ec]
      exact nI_ne0 (by omega) (by omega)
    · refine dr_xnb hX.2.2.2.2.1 (dr_G_n hG) (by omega) ?_
      refine And.intro (vp_in_nI (by omega) (by omega)) ?_
      rw [nI_clamp (by omega), hL.1.1 r (by omega)]
      exact hp
theorem dr_xlb2 {post : Int32 → SX → Prop} {p1 : Int32} (hG : dr_G E op gn vn tg nd) (hX : dr_X E op gn vn tg nd f_isOpen f_begun f_ended f_noteCount f_tagEntries f_tagCount f_valueEntries f_valueCount f_openGroups f_openValues f_groupCount a_noteThere a_tagAgain a_tagDepth a_valueAgain a_valueDepth) {r : Nat} (hr : r < E) (h1 : ¬ p1 = -1) (h : ¬ dr_ok E gn (nI r) p1) (hp : ∀ fo pa, post 0 (f_isOpen, f_begun, f_ended, f_noteCount, f_tagEntries, f_tagCount, f_valueEntries, f_valueCount, f_openGroups, f_openValues, f_groupCount, fo, pa, a_noteThere, a_notes, a_tagAgain, a_tagDepth, a_tags, a_valueAgain, a_valueDepth, a_values)) : wpX_label post (f_isOpen, f_begun, f_ended, f_noteCount, f_tagEntries, f_tagCount, f_valueEntries, f_valueCount, f_openGroups, f_openValues, f_groupCount, f_found, f_passed, a_noteThere, a_notes, a_tagAgain, a_tagDepth, a_tags, a_valueAgain, a_valueDepth, a_values) (nI r) p1 := by
  unfold wpX_label
  refine dr_xie_t hG hX hr (br_f (by decide) (br_f h1 ?_))
  exact dr_xig_f hG hX h (fun fo pa => br_t rfl (hp fo pa))
theorem dr_xlb3 {post : Int32 → SX → Prop} (hG : dr_G E op gn vn tg nd) (hX : dr_X E op gn vn tg nd f_isOpen f_begun f_ended f_noteCount f_tagEntries f_tagCount f_valueEntries f_valueCount f_openGroups f_openValues f_groupCount a_noteThere a_tagAgain a_tagDepth a_valueAgain a_valueDepth) (hL : dr_L vn tg nd a_notes a_tags a_values b_notes b_tags b_values) {r q : Nat} (hr : r < E) (hq : q < gn r) (hp : ∀ fo pa, post (b_tags (4 * r + q)) (f_isOpen, f_begun, f_ended, f_noteCount, f_tagEntries, f_tagCount, f_valueEntries, f_valueCount, f_openGroups, f_openValues, f_groupCount, fo, pa, a_noteThere, a_notes, a_tagAgain, a_tagDepth, a_tags, a_valueAgain, a_valueDepth, a_values)) : wpX_label post (f_isOpen, f_begun, f_ended, f_noteCount, f_tagEntries, f_tagCount, f_valueEntries, f_valueCount, f_openGroups, f_openValues, f_groupCount, f_found, f_passed, a_noteThere, a_notes, a_tagAgain, a_tagDepth, a_tags, a_valueAgain, a_valueDepth, a_values) (nI r) (nI q) := by
  have hE := dr_G_E hG
  have hg := dr_G_g hG r
  have h40 := dr_G_40 hG
  have htg := dr_G_tg hG
  have ht := dr_G_t hG (4 * r + q)
  have hb := dr_G_T hG
  have hlt : 4 * r + q < dr_M E gn := by
    unfold dr_M
    omega
  have hre : (4 * r + q) % 4 < gn ((4 * r + q) / 4) := by
    rw [show (4 * r + q) / 4 = r from by omega]
    omega
  have hw : dr_wT gn (4 * r + q) = 1 := dr_wT_r hre
  have hs := dr_sm_al (dr_wT gn) hlt
  have hs2 := dr_sm_al tg hlt
  have hT := hX.2.2.2.2.2.1
  have hD : a_tagDepth (nI (dr_sm (dr_wT gn) (4 * r + q))).toNatClampNeg = nI (1 + tg (4 * r + q)) := by
    rw [nI_clamp (by omega), (hT _ hlt hw).2]
    unfold dr_td
    rw [if_pos hre]
  unfold wpX_label
  refine dr_xie_t hG hX hr (br_f (by decide) (br_f (dr_nm1 (by omega)) ?_))
  refine dr_xig_t hG hX hr hq (fun fo pa => br_f (by decide) ?_)
  refine dr_xft hT hX.2.1.1 hb (dr_G_t hG) (dr_G_tr hG) (dr_M_48 hG) (by omega) hlt hw ?_
  refine And.intro (vp_in_nI (by omega) (by omega)) ?_
  have hP := hp (nI (dr_sm (dr_wT gn) (4 * r + q))) (nI (dr_sm tg (4 * r + q)))
  by_cases h1 : tg (4 * r + q) = 1
  · refine br_t ?_ (And.intro (vp_in_nI (by omega) (by omega)) ?_)
    · rw [hD, h1]
      rfl
    · rw [nI_clamp (by omega), hL.2.1.1 _ h1]
      exact hP
  · have h0 : tg (4 * r + q) = 0 := by omega
    rw [hL.2.1.2 _ h0] at hP
    refine br_f ?_ hP
    rw [hD, h0]
    decide
end
section
variable {g_records g_open g_allGroups g_allValues : Int32} {b_noted b_notes b_groupsOf b_tagged b_tags b_valuesOf b_values : Nat → Int32}
variable {E op : Nat} {gn vn tg nd : Nat → Nat}
theorem dr_ygr_t {post : Int32 → Prop} (hG : dr_G E op gn vn tg nd) (hY : dr_Y E op gn vn tg nd g_records g_open g_allGroups g_allValues b_noted b_groupsOf b_tagged b_valuesOf) {r : Nat} (hr : r < E) (hp : post (nI (gn r))) : wpY_groups post (g_records, g_open, g_allGroups, g_allValues, b_noted, b_notes, b_groupsOf, b_tagged, b_tags, b_valuesOf, b_values) (nI r) := by
  have hE := dr_G_E hG
  unfold wpY_groups
  refine dr_yms_t hG hY hr (br_t rfl (And.intro (vp_in_nI (by omega) (by omega)) ?_))
  rw [nI_clamp (by omega), hY.2.2.1]
  exact hp
theorem dr_ygr_f {post : Int32 → Prop} (hG : dr_G E op gn vn tg nd) (hY : dr_Y E op gn vn tg nd g_records g_open g_allGroups g_allValues b_noted b_groupsOf b_tagged b_valuesOf) {p0 : Int32} (h : p0 < 0 ∨ nI E ≤ p0) (hp : post (-1)) : wpY_groups post (g_records, g_open, g_allGroups, g_allValues, b_noted, b_notes, b_groupsOf, b_tagged, b_tags, b_valuesOf, b_values) p0 := by
  unfold wpY_groups
  exact dr_yms_f hG hY h (br_f (by decide) hp)
theorem dr_4rq {r q : Nat} : 4 * nI r + nI q = nI (4 * r + q) := by
  rw [← nI_add, ← pk_mul]
  rfl
theorem dr_yvs_t {post : Int32 → Prop} (hG : dr_G E op gn vn tg nd) (hY : dr_Y E op gn vn tg nd g_records g_open g_allGroups g_allValues b_noted b_groupsOf b_tagged b_valuesOf) {r q : Nat} (hr : r < E) (hq : q < gn r) (hp : post (nI (vn (4 * r + q)))) : wpY_values post (g_records, g_open, g_allGroups, g_allValues, b_noted, b_notes, b_groupsOf, b_tagged, b_tags, b_valuesOf, b_values) (nI r) (nI q) := by
  have hE := dr_G_E hG
  have hg := dr_G_g hG r
  unfold wpY_values
  refine dr_yng_t hG hY hr hq (br_t rfl ?_)
  rw [dr_4rq]
  refine And.intro (vp_in_nI (by omega) (by omega)) ?_
  rw [nI_clamp (by omega), hY.2.2.2.2]
  exact hp
theorem dr_yvs_f {post : Int32 → Prop} (hG : dr_G E op gn vn tg nd) (hY : dr_Y E op gn vn tg nd g_records g_open g_allGroups g_allValues b_noted b_groupsOf b_tagged b_valuesOf) {p0 p1 : Int32} (h : ¬ dr_ok E gn p0 p1) (hp : post (-1)) : wpY_values post (g_records, g_open, g_allGroups, g_allValues, b_noted, b_notes, b_groupsOf, b_tagged, b_tags, b_valuesOf, b_values) p0 p1 := by
  unfold wpY_values
  exact dr_yng_f hG hY h (br_f (by decide) hp)
theorem dr_yva0 {post : Int32 → Prop} {p0 p1 p2 : Int32} (hG : dr_G E op gn vn tg nd) (hY : dr_Y E op gn vn tg nd g_records g_open g_allGroups g_allValues b_noted b_groupsOf b_tagged b_valuesOf) (h : ¬ dr_ok E gn p0 p1) (hp : post 0) : wpY_valueAt post (g_records, g_open, g_allGroups, g_allValues, b_noted, b_notes, b_groupsOf, b_tagged, b_tags, b_valuesOf, b_values) p0 p1 p2 := by
  unfold wpY_valueAt
  exact dr_yng_f hG hY h (br_f (by decide) hp)
theorem dr_yva1 {post : Int32 → Prop} {p2 : Int32} (hG : dr_G E op gn vn tg nd) (hY : dr_Y E op gn vn tg nd g_records g_open g_allGroups g_allValues b_noted b_groupsOf b_tagged b_valuesOf) {r q : Nat} (hr : r < E) (hq : q < gn r) (h2 : p2 < 0 ∨ nI (vn (4 * r + q)) ≤ p2) (hp : post 0) : wpY_valueAt post (g_records, g_open, g_allGroups, g_allValues, b_noted, b_notes, b_groupsOf, b_tagged, b_tags, b_valuesOf, b_values) (nI r) (nI q) p2 := by
  have hE := dr_G_E hG
  have hg := dr_G_g hG r
  unfold wpY_valueAt
  refine dr_yng_t hG hY hr hq (br_t rfl ?_)
  by_cases h0 : p2 < 0
  · exact br_t h0 hp
  · refine br_f h0 ?_
    rw [dr_4rq]
    refine And.intro (vp_in_nI (by omega) (by omega)) (br_f ?_ hp)
    rw [nI_clamp (by omega), hY.2.2.2.2]
    cases h2 with
    | inl h => exact absurd h h0
    | inr h => exact Int32.not_lt.mpr h
theorem dr_yva2 {post : Int32 → Prop} (hG : dr_G E op gn vn tg nd) (hY : dr_Y E op gn vn tg nd g_records g_open g_allGroups g_allValues b_noted b_groupsOf b_tagged b_valuesOf) {r q j : Nat} (hr : r < E) (hq : q < gn r) (hj : j < vn (4 * r + q)) (hp : post (b_values (4 * (4 * r + q) + j))) : wpY_valueAt post (g_records, g_open, g_allGroups, g_allValues, b_noted, b_notes, b_groupsOf, b_tagged, b_tags, b_valuesOf, b_values) (nI r) (nI q) (nI j) := by
  have hE := dr_G_E hG
  have hg := dr_G_g hG r
  have hv := dr_G_v hG (4 * r + q)
  have e : 16 * nI r + 4 * nI q + nI j = nI (4 * (4 * r + q) + j) := by
    rw [show 4 * (4 * r + q) + j = 16 * r + 4 * q + j from by omega, ← nI_add, ← nI_add, ← pk_mul, ← pk_mul]
    rfl
  unfold wpY_valueAt
  refine dr_yng_t hG hY hr hq (br_t rfl (br_f (nI_pos (by omega)) ?_))
  rw [dr_4rq, e]
  refine And.intro (vp_in_nI (by omega) (by omega)) (br_t ?_ (And.intro (vp_in_nI (by omega) (by omega)) ?_))
  · rw [nI_clamp (by omega), hY.2.2.2.2]
    exact nI_lt hj (by omega)
  · rw [nI_clamp (by omega)]
    exact hp
theorem dr_ylb0 {post : Int32 → Prop} {p0 p1 : Int32} (hG : dr_G E op gn vn tg nd) (hY : dr_Y E op gn vn tg nd g_records g_open g_allGroups g_allValues b_noted b_groupsOf b_tagged b_valuesOf) (h : p0 < 0 ∨ nI E ≤ p0) (hp : post 0) : wpY_label post (g_records, g_open, g_allGroups, g_allValues, b_noted, b_notes, b_groupsOf, b_tagged, b_tags, b_valuesOf, b_values) p0 p1 := by
  unfold wpY_label
  exact dr_yms_f hG hY h (br_f (by decide) hp)
theorem dr_ylb1 {post : Int32 → Prop} (hG : dr_G E op gn vn tg nd) (hY : dr_Y E op gn vn tg nd g_records g_open g_allGroups g_allValues b_noted b_groupsOf b_tagged b_valuesOf) {r : Nat} (hr : r < E) (hp : post (b_notes r)) : wpY_label post (g_records, g_open, g_allGroups, g_allValues, b_noted, b_notes, b_groupsOf, b_tagged, b_tags, b_valuesOf, b_values) (nI r) (-1) := by
  have hE := dr_G_E hG
  unfold wpY_label
  refine dr_yms_t hG hY hr (br_t rfl (br_t rfl (And.intro (vp_in_nI (by omega) (by omega)) ?_)))
  rw [nI_clamp (by omega)]
  exact hp
theorem dr_ylb2 {post : Int32 → Prop} {p1 : Int32} (hG : dr_G E op gn vn tg nd) (hY : dr_Y E op gn vn tg nd g_records g_open g_allGroups g_allValues b_noted b_groupsOf b_tagged b_valuesOf) {r : Nat} (hr : r < E) (h1 : ¬ p1 = -1) (h : ¬ dr_ok E gn (nI r) p1) (hp : post 0) : wpY_label post (g_records, g_open, g_allGroups, g_allValues, b_noted, b_notes, b_groupsOf, b_tagged, b_tags, b_valuesOf, b_values) (nI r) p1 := by
  unfold wpY_label
  refine dr_yms_t hG hY hr (br_t rfl (br_f h1 ?_))
  exact dr_yng_f hG hY h (br_f (by decide) hp)
theorem dr_ylb3 {post : Int32 → Prop} (hG : dr_G E op gn vn tg nd) (hY : dr_Y E op gn vn tg nd g_records g_open g_allGroups g_allValues b_noted b_groupsOf b_tagged b_valuesOf) {r q : Nat} (hr : r < E) (hq : q < gn r) (hp : post (b_tags (4 * r + q))) : wpY_label post (g_records, g_open, g_allGroups, g_allValues, b_noted, b_notes, b_groupsOf, b_tagged, b_tags, b_valuesOf, b_values) (nI r) (nI q) := by
  have hE := dr_G_E hG
  have hg := dr_G_g hG r
  unfold wpY_label
  refine dr_yms_t hG hY hr (br_t rfl (br_f (dr_nm1 (by omega)) ?_))
  refine dr_yng_t hG hY hr hq (br_t rfl ?_)
  rw [dr_4rq]
  refine And.intro (vp_in_nI (by omega) (by omega)) ?_
  rw [nI_clamp (by omega)]
  exact hp
end
end
section
/-! what is owed -/
theorem i_vc_begin {k : Nat} {u : SX} {v : SY} (I : i_Rel k u v) (hk : k + 4 ≤ 2048) (v1 : Int32) (v2 : Int32) : wpX_begin (fun r u' => wpY_begin (fun r' v' => r' = r ∧ i_Rel (k + 4) u' v') v (lw_bz v1) v2) u (lw_bz v1) v2 := by
  obtain ⟨h, hh, eh⟩ := dr_bz v1
  rw [eh]
  refine dr_el (P := fun u v => wpX_begin (fun r u' => wpY_begin (fun r' v' => r' = r ∧ i_Rel (k + 4) u' v') v (nI h) v2) u (nI h) v2) I ?_
  intro f_isOpen f_begun f_ended f_noteCount f_tagEntries f_tagCount f_valueEntries f_valueCount f_openGroups f_openValues f_groupCount f_found f_passed a_noteThere a_notes a_tagAgain a_tagDepth a_tags a_valueAgain a_valueDepth a_values g_records g_open g_allGroups g_allValues b_noted b_notes b_groupsOf b_tagged b_tags b_valuesOf b_values E op gn vn tg nd hG hX hY hL
  by_cases hc : op = 0 ∧ E < 12
  · obtain ⟨hop, h12⟩ := hc
    subst hop
    exact dr_xbg hG hX rfl h12 hh (dr_ybg hY rfl h12 hh ⟨rfl, dr_in _ (dr_bg_G hG h12 hh) (dr_bg_X hG hX) (dr_bg_Y hY) (dr_bg_L hG hh hL)⟩)
  · exact dr_xbg_n hG hX hc (dr_ybg_n hG hY hc ⟨rfl, dr_in _ hG hX hY hL⟩)
theorem i_vc_group {k : Nat} {u : SX} {v : SY} (I : i_Rel k u v) (hk : k + 4 ≤ 2048) (v1 : Int32) (v2 : Int32) : wpX_group (fun r u' => wpY_group (fun r' v' => r' = r ∧ i_Rel (k + 4) u' v') v (lw_bz v1) v2) u (lw_bz v1) v2 := by
  obtain ⟨h, hh, eh⟩ := dr_bz v1
  rw [eh]
  refine dr_el (P := fun u v => wpX_group (fun r u' => wpY_group (fun r' v' => r' = r ∧ i_Rel (k + 4) u' v') v (nI h) v2) u (nI h) v2) I ?_
  intro f_isOpen f_begun f_ended f_noteCount f_tagEntries f_tagCount f_valueEntries f_valueCount f_openGroups f_openValues f_groupCount f_found f_passed a_noteThere a_notes a_tagAgain a_tagDepth a_tags a_valueAgain a_valueDepth a_values g_records g_open g_allGroups g_allValues b_noted b_notes b_groupsOf b_tagged b_tags b_valuesOf b_values E op gn vn tg nd hG hX hY hL
  by_cases hc : op = 1 ∧ gn E < 4 ∧ dr_sm (dr_rl gn) (dr_M E gn) < 40
  · obtain ⟨hop, hg, h40⟩ := hc
    subst hop
    exact dr_xgp hG hX rfl hg h40 hh (fun vE vA vD hvE hvC => dr_ygp hG hY rfl hg h40 hh ⟨rfl, dr_in _ (dr_gp_G hG hg h40 hh) (dr_gp_X hG hX hg hvE hvC) (dr_gp_Y hG hY hg) (dr_gp_L hG hh hL)⟩)
  · exact dr_xgp_n hG hX hc (dr_ygp_n hG hY hc ⟨rfl, dr_in _ hG hX hY hL⟩)
theorem i_vc_value {k : Nat} {u : SX} {v : SY} (I : i_Rel k u v) (hk : k + 4 ≤ 2048) (v1 : Int32) : wpX_value (fun r u' => wpY_value (fun r' v' => r' = r ∧ i_Rel (k + 4) u' v') v v1) u v1 := by
  refine dr_el (P := fun u v => wpX_value (fun r u' => wpY_value (fun r' v' => r' = r ∧ i_Rel (k + 4) u' v') v v1) u v1) I ?_
  intro f_isOpen f_begun f_ended f_noteCount f_tagEntries f_tagCount f_valueEntries f_valueCount f_openGroups f_openValues f_groupCount f_found f_passed a_noteThere a_notes a_tagAgain a_tagDepth a_tags a_valueAgain a_valueDepth a_values g_records g_open g_allGroups g_allValues b_noted b_notes b_groupsOf b_tagged b_tags b_valuesOf b_values E op gn vn tg nd hG hX hY hL
  by_cases hc : 0 < gn E ∧ vn (dr_M E gn - 1) < 4 ∧ dr_sm vn (dr_M E gn) < 60
  · obtain ⟨hg, hv, h60⟩ := hc
    obtain ⟨l1, l2, l3, l4, l5⟩ := dr_last hG hg
    exact dr_xva hG hX hg hv h60 (dr_yva hG hY hg hv h60 ⟨rfl, dr_in _ (dr_va_G hG l4 l1 hv h60) (dr_va_X hX hg l4) (dr_va_Y hY l4) (dr_va_L hG hL l4 hv)⟩)
  · exact dr_xva_n hG hX hc (dr_yva_n hG hY hc ⟨rfl, dr_in _ hG hX hY hL⟩)
theorem i_vc_end {k : Nat} {u : SX} {v : SY} (I : i_Rel k u v) (hk : k + 4 ≤ 2048) : wpX_end (fun r u' => wpY_end (fun r' v' => r' = r ∧ i_Rel (k + 4) u' v') v) u := by
  refine dr_el (P := fun u v => wpX_end (fun r u' => wpY_end (fun r' v' => r' = r ∧ i_Rel (k + 4) u' v') v) u) I ?_
  intro f_isOpen f_begun f_ended f_noteCount f_tagEntries f_tagCount f_valueEntries f_valueCount f_openGroups f_openValues f_groupCount f_found f_passed a_noteThere a_notes a_tagAgain a_tagDepth a_tags a_valueAgain a_valueDepth a_values g_records g_open g_allGroups g_allValues b_noted b_notes b_groupsOf b_tagged b_tags b_valuesOf b_values E op gn vn tg nd hG hX hY hL
  have hE := dr_G_E hG
  by_cases hc : op = 0
  · exact dr_xen_n hX hc (dr_yen_n hY hc ⟨rfl, dr_in _ hG hX hY hL⟩)
  · have hop : op = 1 := by omega
    subst hop
    exact dr_xen hG hX rfl (fun tE vE tA tD vA vD h1 h2 h3 h4 => dr_yen hY rfl ⟨rfl, dr_in _ (dr_en_G hG) (dr_en_X hG hX h1 h2 h3 h4) (dr_en_Y hG hY) hL⟩)
theorem i_vc_groups {k : Nat} {u : SX} {v : SY} (I : i_Rel k u v) (hk : k + 4 ≤ 2048) (v1 : Int32) : wpX_groups (fun r u' => wpY_groups (fun r' => r' = r ∧ i_Rel (k + 4) u' v) v v1) u v1 := by
  refine dr_el (P := fun u v => wpX_groups (fun r u' => wpY_groups (fun r' => r' = r ∧ i_Rel (k + 4) u' v) v v1) u v1) I ?_
  intro f_isOpen f_begun f_ended f_noteCount f_tagEntries f_tagCount f_valueEntries f_valueCount f_openGroups f_openValues f_groupCount f_found f_passed a_noteThere a_notes a_tagAgain a_tagDepth a_tags a_valueAgain a_valueDepth a_values g_records g_open g_allGroups g_allValues b_noted b_notes b_groupsOf b_tagged b_tags b_valuesOf b_values E op gn vn tg nd hG hX hY hL
  have hE := dr_G_E hG
  cases dr_ended E (by omega) v1 with
  | inl h => exact dr_xgr_f hX h (dr_ygr_f hG hY h ⟨rfl, dr_in _ hG hX hY hL⟩)
  | inr h =>
    obtain ⟨r, hr, rfl⟩ := h
    exact dr_xgr_t hG hX hr (fun fo pa => dr_ygr_t hG hY hr ⟨rfl, dr_in _ hG hX hY hL⟩)
theorem i_vc_values {k : Nat} {u : SX} {v : SY} (I : i_Rel k u v) (hk : k + 4 ≤ 2048) (v1 : Int32) (v2 : Int32) : wpX_values (fun r u' => wpY_values (fun r' => r' = r ∧ i_Rel (k + 4) u' v) v v1 v2) u v1 v2 := by
  refine dr_el (P := fun u v => wpX_values (fun r u' => wpY_values (fun r' => r' = r ∧ i_Rel (k + 4) u' v) v v1 v2) u v1 v2) I ?_
  intro f_isOpen f_begun f_ended f_noteCount f_tagEntries f_tagCount f_valueEntries f_valueCount f_openGroups f_openValues f_groupCount f_found f_passed a_noteThere a_notes a_tagAgain a_tagDepth a_tags a_valueAgain a_valueDepth a_values g_records g_open g_allGroups g_allValues b_noted b_notes b_groupsOf b_tagged b_tags b_valuesOf b_values E op gn vn tg nd hG hX hY hL
  by_cases hc : dr_ok E gn v1 v2
  · obtain ⟨r, q, hr, hq, rfl, rfl⟩ := hc
    exact dr_xvs_t hG hX hr hq (fun fo pa => dr_yvs_t hG hY hr hq ⟨rfl, dr_in _ hG hX hY hL⟩)
  · exact dr_xvs_f hG hX hc (fun fo pa => dr_yvs_f hG hY hc ⟨rfl, dr_in _ hG hX hY hL⟩)
theorem i_vc_valueAt {k : Nat} {u : SX} {v : SY} (I : i_Rel k u v) (hk : k + 4 ≤ 2048) (v1 : Int32) (v2 : Int32) (v3 : Int32) : wpX_valueAt (fun r u' => wpY_valueAt (fun r' => r' = r ∧ i_Rel (k + 4) u' v) v v1 v2 v3) u v1 v2 v3 := by
  refine dr_el (P := fun u v => wpX_valueAt (fun r u' => wpY_valueAt (fun r' => r' = r ∧ i_Rel (k + 4) u' v) v v1 v2 v3) u v1 v2 v3) I ?_
  intro f_isOpen f_begun f_ended f_noteCount f_tagEntries f_tagCount f_valueEntries f_valueCount f_openGroups f_openValues f_groupCount f_found f_passed a_noteThere a_notes a_tagAgain a_tagDepth a_tags a_valueAgain a_valueDepth a_values g_records g_open g_allGroups g_allValues b_noted b_notes b_groupsOf b_tagged b_tags b_valuesOf b_values E op gn vn tg nd hG hX hY hL
  by_cases hc : dr_ok E gn v1 v2
  · obtain ⟨r, q, hr, hq, rfl, rfl⟩ := hc
    have hv := dr_G_v hG (4 * r + q)
    by_cases h2 : v3 < 0 ∨ nI (vn (4 * r + q)) ≤ v3
    · exact dr_xva1 hG hX hr hq h2 (fun fo pa => dr_yva1 hG hY hr hq h2 ⟨rfl, dr_in _ hG hX hY hL⟩)
    · obtain ⟨j, hj, rfl⟩ : ∃ j : Nat, j < vn (4 * r + q) ∧ v3 = nI j := by
        cases dr_ended (vn (4 * r + q)) (by omega) v3 with
        | inl h => exact absurd h h2
        | inr h => exact h
      exact dr_xva2 hG hX hL hr hq hj (fun fo pa => dr_yva2 hG hY hr hq hj ⟨rfl, dr_in _ hG hX hY hL⟩)
  · exact dr_xva0 hG hX hc (fun fo pa => dr_yva0 hG hY hc ⟨rfl, dr_in _ hG hX hY hL⟩)
theorem i_vc_hasNote {k : Nat} {u : SX} {v : SY} (I : i_Rel k u v) (hk : k + 4 ≤ 2048) (v1 : Int32) : wpX_hasNote (fun r => wpY_hasNote (fun r' => r' = r ∧ i_Rel (k + 4) u v) v v1) u v1 := by
  refine dr_el (P := fun u v => wpX_hasNote (fun r => wpY_hasNote (fun r' => r' = r ∧ i_Rel (k + 4) u v) v v1) u v1) I ?_
  intro f_isOpen f_begun f_ended f_noteCount f_tagEntries f_tagCount f_valueEntries f_valueCount f_openGroups f_openValues f_groupCount f_found f_passed a_noteThere a_notes a_tagAgain a_tagDepth a_tags a_valueAgain a_valueDepth a_values g_records g_open g_allGroups g_allValues b_noted b_notes b_groupsOf b_tagged b_tags b_valuesOf b_values E op gn vn tg nd hG hX hY hL
  have hE := dr_G_E hG
  unfold wpX_hasNote wpY_hasNote
  cases dr_ended E (by omega) v1 with
  | inl h => exact dr_xie_f hX h (br_t rfl (dr_yms_f hG hY h (br_f (by decide) ⟨rfl, dr_in _ hG hX hY hL⟩)))
  | inr h =>
    obtain ⟨r, hr, rfl⟩ := h
    have h1 := dr_G_n hG r
    have hi : vp_in (nI r) 12 := vp_in_nI (by omega) (by omega)
    have ex : a_noteThere (nI r).toNatClampNeg = nI (nd r) := by rw [nI_clamp (by omega)]; exact hX.2.2.2.2.1 r
    have ey : b_noted (nI r).toNatClampNeg = nI (nd r) := by rw [nI_clamp (by omega)]; exact hY.2.1 r
    refine dr_xie_t hG hX hr (br_f (by decide) (And.intro hi ?_))
    by_cases h0 : nd r = 0
    · have e0 : nI (nd r) = 0 := by rw [h0]; exact nI_0
      exact br_t (ex.trans e0) (dr_yms_t hG hY hr (br_t rfl (And.intro hi (br_t (ey.trans e0) ⟨rfl, dr_in _ hG hX hY hL⟩))))
    · have e0 : ¬ nI (nd r) = 0 := nI_ne0 (by omega) (by omega)
      exact br_f (fun z => e0 (ex.symm.trans z)) (dr_yms_t hG hY hr (br_t rfl (And.intro hi (br_f (fun z => e0 (ey.symm.trans z)) ⟨rfl, dr_in _ hG hX hY hL⟩))))
theorem i_vc_label {k : Nat} {u : SX} {v : SY} (I : i_Rel k u v) (hk : k + 4 ≤ 2048) (v1 : Int32) (v2 : Int32) : wpX_label (fun r u' => wpY_label (fun r' => r' = r ∧ i_Rel (k + 4) u' v) v v1 v2) u v1 v2 := by
  refine dr_el (P := fun u v => wpX_label (fun r u' => wpY_label (fun r' => r' = r ∧ i_Rel (k + 4) u' v) v v1 v2) u v1 v2) I ?_
  intro f_isOpen f_begun f_ended f_noteCount f_tagEntries f_tagCount f_valueEntries f_valueCount f_openGroups f_openValues f_groupCount f_found f_passed a_noteThere a_notes a_tagAgain a_tagDepth a_tags a_valueAgain a_valueDepth a_values g_records g_open g_allGroups g_allValues b_noted b_notes b_groupsOf b_tagged b_tags b_valuesOf b_values E op gn vn tg nd hG hX hY hL
  have hE := dr_G_E hG
  cases dr_ended E (by omega) v1 with
  | inl h => exact dr_xlb0 hX h (dr_ylb0 hG hY h ⟨rfl, dr_in _ hG hX hY hL⟩)
  | inr h =>
    obtain ⟨r, hr, rfl⟩ := h
    by_cases h1 : v2 = -1
    · subst h1
      exact dr_xlb1 hG hX hL hr (dr_ylb1 hG hY hr ⟨rfl, dr_in _ hG hX hY hL⟩)
    · by_cases hc : dr_ok E gn (nI r) v2
      · obtain ⟨r', q, hr', hq, e, rfl⟩ := hc
        have er : r = r' := (nI_eq (by omega) (by omega)).mp e
        subst er
        exact dr_xlb3 hG hX hL hr hq (fun fo pa => dr_ylb3 hG hY hr hq ⟨rfl, dr_in _ hG hX hY hL⟩)
      · exact dr_xlb2 hG hX hr h1 hc (fun fo pa => dr_ylb2 hG hY hr h1 hc ⟨rfl, dr_in _ hG hX hY hL⟩)
theorem i_vc_sumByTag {k : Nat} {u : SX} {v : SY} (I : i_Rel k u v) (hk : k + 4 ≤ 2048) (v1 : Int32) : wpX_sumByTag (fun r => wpY_sumByTag (fun r' => r' = r ∧ i_Rel (k + 4) u v) v v1) u v1 := by
  refine dr_el (P := fun u v => wpX_sumByTag (fun r => wpY_sumByTag (fun r' => r' = r ∧ i_Rel (k + 4) u v) v v1) u v1) I ?_
  intro f_isOpen f_begun f_ended f_noteCount f_tagEntries f_tagCount f_valueEntries f_valueCount f_openGroups f_openValues f_groupCount f_found f_passed a_noteThere a_notes a_tagAgain a_tagDepth a_tags a_valueAgain a_valueDepth a_values g_records g_open g_allGroups g_allValues b_noted b_notes b_groupsOf b_tagged b_tags b_valuesOf b_values E op gn vn tg nd hG hX hY hL
  exact dr_xsum hG hX hL (dr_ysum hG hY ⟨rfl, dr_in _ hG hX hY hL⟩)
theorem i_vc_recordsWith {k : Nat} {u : SX} {v : SY} (I : i_Rel k u v) (hk : k + 4 ≤ 2048) (v1 : Int32) (v2 : Int32) : wpX_recordsWith (fun r => wpY_recordsWith (fun r' => r' = r ∧ i_Rel (k + 4) u v) v v1 v2) u v1 v2 := by
  refine dr_el (P := fun u v => wpX_recordsWith (fun r => wpY_recordsWith (fun r' => r' = r ∧ i_Rel (k + 4) u v) v v1 v2) u v1 v2) I ?_
  intro f_isOpen f_begun f_ended f_noteCount f_tagEntries f_tagCount f_valueEntries f_valueCount f_openGroups f_openValues f_groupCount f_found f_passed a_noteThere a_notes a_tagAgain a_tagDepth a_tags a_valueAgain a_valueDepth a_values g_records g_open g_allGroups g_allValues b_noted b_notes b_groupsOf b_tagged b_tags b_valuesOf b_values E op gn vn tg nd hG hX hY hL
  exact dr_xrec hG hX hL (dr_yrec hG hY ⟨rfl, dr_in _ hG hX hY hL⟩)
end
