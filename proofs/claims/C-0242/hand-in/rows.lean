section
/-! rows of the kit to paste (a starting text): the ones used here -/
theorem pk_us {f : Nat → Int32} {k : Nat} {x : Int32} : upd f k x k = x := if_pos rfl
theorem pk_un {f : Nat → Int32} {k j : Nat} {x : Int32} (h : j ≠ k) : upd f k x j = f j := if_neg h
theorem pk_sub {a b : Nat} (h : b ≤ a) : nI a - nI b = nI (a - b) := by
  obtain ⟨c, rfl⟩ : ∃ c, a = c + b := ⟨a - b, by omega⟩
  rw [← nI_add, Int32.add_sub_cancel, Nat.add_sub_cancel]
theorem pk_m1 (n : Nat) : nI (n + 1) + (-1) = nI n := by
  rw [← nI_1, Int32.add_assoc, show (1 : Int32) + (-1) = 0 from rfl, Int32.add_zero]
theorem pk_mul (a b : Nat) : nI a * nI b = nI (a * b) := (Int32.ofNat_mul a b).symm
theorem pk_div {a d : Nat} (ha : a < 2 ^ 31) (h0 : 0 < d) (hd : d < 2 ^ 31) : nI a / nI d = nI (a / d) := by
  apply Int32.toInt_inj.mp
  rw [lg_idiv_nonneg (by rw [nI_toInt ha]; omega) (by rw [nI_toInt hd]; omega), nI_toInt ha, nI_toInt hd, nI_toInt (Nat.lt_of_le_of_lt (Nat.div_le_self a d) ha)]
  first | rfl | exact (Int.natCast_ediv _ _).symm
theorem pk_sub_toInt {a b : Nat} (ha : a < 2 ^ 30) (hb : b < 2 ^ 30) : (nI a - nI b).toInt = (a : Int) - b := by
  rw [Int32.toInt_sub, nI_toInt (by omega), nI_toInt (by omega)]
  exact Int.bmod_eq_of_le (by omega) (by omega)
theorem pk_sneg {a b : Nat} (hb : b < 2 ^ 30) (h : a < b) : nI a - nI b < 0 := by
  rw [Int32.lt_iff_toInt_lt, pk_sub_toInt (by omega) hb, show (0 : Int32).toInt = 0 from by decide]
  omega
theorem pk_ix (x : Int32) {n : Nat} (hn : n < 2 ^ 31) : x < 0 ∨ nI n ≤ x ∨ ∃ j : Nat, j < n ∧ x = nI j := by
  by_cases h : x < 0
  · exact Or.inl h
  · obtain ⟨j, hj, rfl⟩ := nI_of h
    by_cases h2 : j < n
    · exact Or.inr (Or.inr ⟨j, h2, rfl⟩)
    · exact Or.inr (Or.inl (nI_le (by omega) hj))
theorem pk_le {x y : Int32} {A B : Prop} (a b : Nat) (f : a ≤ b → A) (g : b < a → B) (hx : x = nI a := by rfl) (hy : y = nI b := by rfl) (ha : a < 2 ^ 31 := by omega) (hb : b < 2 ^ 31 := by omega) : (x ≤ y → A) ∧ (¬ x ≤ y → B) := by
  subst hx hy
  rw [nI_leI ha hb]
  exact ⟨f, fun z => g (by omega)⟩
theorem pk_lt {x y : Int32} {A B : Prop} (a b : Nat) (f : a < b → A) (g : b ≤ a → B) (hx : x = nI a := by rfl) (hy : y = nI b := by rfl) (ha : a < 2 ^ 31 := by omega) (hb : b < 2 ^ 31 := by omega) : (x < y → A) ∧ (¬ x < y → B) := by
  subst hx hy
  rw [nI_ltI ha hb]
  exact ⟨f, fun z => g (by omega)⟩
theorem pk_eq {x y : Int32} {A B : Prop} (a b : Nat) (f : a = b → A) (g : a ≠ b → B) (hx : x = nI a := by rfl) (hy : y = nI b := by rfl) (ha : a < 2 ^ 31 := by omega) (hb : b < 2 ^ 31 := by omega) : (x = y → A) ∧ (¬ x = y → B) := by
  subst hx hy
  rw [nI_eq ha hb]
  exact ⟨f, g⟩
theorem pk_in {x : Int32} (n N : Nat) (h : n < N) (hx : x = nI n := by rfl) (hN : N < 2 ^ 31 := by omega) : vp_in x N := by
  subst hx
  exact vp_in_nI h hN
theorem pk_cl {x : Int32} (n : Nat) (hx : x = nI n := by rfl) (h : n < 2 ^ 31 := by omega) : x.toNatClampNeg = n := by
  subst hx
  exact nI_clamp h
theorem pk_shr (a s : Int32) (k : Nat) (hs : (s.toBitVec.smod 32).toNat = k) : (a >>> s).toInt = a.toInt >>> k := by
  show (a.toBitVec.sshiftRight (s.toBitVec.smod 32).toNat).toInt = _
  rw [hs, BitVec.toInt_sshiftRight]
  rfl
theorem pk_shrN {n : Nat} (h : n < 2 ^ 31) (s : Int32) (k : Nat) (hs : (s.toBitVec.smod 32).toNat = k) : nI n >>> s = nI (n / 2 ^ k) := by
  apply Int32.toInt_inj.mp
  have h2 : n / 2 ^ k ≤ n := Nat.div_le_self _ _
  rw [pk_shr _ _ k hs, nI_toInt h, nI_toInt (by omega), Int.shiftRight_eq_div_pow]
  rfl
theorem pk_least (P : Nat → Prop) (h : ∃ k, P k) : ∃ k, P k ∧ ∀ j, j < k → ¬ P j := by
  obtain ⟨k, hk⟩ := h
  induction k using Nat.strongRecOn with
  | ind k ih =>
    by_cases e : ∃ j, j < k ∧ P j
    · obtain ⟨j, hj, pj⟩ := e
      exact ih j hj pj
    · exact ⟨k, hk, fun j hj pj => e ⟨j, hj, pj⟩⟩
theorem sb_negT {w : Nat} (h : w < 2 ^ 31) : (-nI w).toInt = -(w : Int) := by
  rw [Int32.toInt_neg, nI_toInt h]
  exact Int.bmod_eq_of_le (by omega) (by omega)
end
section
/-! sums of naturals, units in order, the greedy choice -/
def ip_sum (f : Nat → Nat) : Nat → Nat
  | 0 => 0
  | n + 1 => ip_sum f n + f n
theorem ip_sum_congr {f g : Nat → Nat} : ∀ n, (∀ j, j < n → f j = g j) → ip_sum f n = ip_sum g n := by
  intro n
  induction n with
  | zero => intro _; rfl
  | succ n ih =>
    intro h
    show ip_sum f n + f n = ip_sum g n + g n
    rw [ih (fun j hj => h j (by omega)), h n (by omega)]
theorem ip_sum_le {f g : Nat → Nat} : ∀ n, (∀ j, j < n → f j ≤ g j) → ip_sum f n ≤ ip_sum g n := by
  intro n
  induction n with
  | zero => intro _; exact Nat.le_refl _
  | succ n ih =>
    intro h
    show ip_sum f n + f n ≤ ip_sum g n + g n
    have h1 := ih (fun j hj => h j (by omega))
    have h2 := h n (by omega)
    omega
theorem ip_sum_lt {f g : Nat → Nat} : ∀ n, (∀ j, j < n → f j ≤ g j) → (∃ j, j < n ∧ f j < g j) → ip_sum f n < ip_sum g n := by
  intro n
  induction n with
  | zero => intro _ ⟨j, hj, _⟩; omega
  | succ n ih =>
    intro h ⟨j, hj, hl⟩
    show ip_sum f n + f n < ip_sum g n + g n
    have h1 := ip_sum_le n (fun j hj => h j (Nat.lt_succ_of_lt hj))
    have h2 := h n (by omega)
    by_cases e : j = n
    · subst e; omega
    · have h3 := ih (fun j hj => h j (by omega)) ⟨j, by omega, hl⟩
      omega
theorem ip_sum_ub {f : Nat → Nat} (B : Nat) : ∀ n, (∀ j, j < n → f j ≤ B) → ip_sum f n ≤ n * B := by
  intro n
  induction n with
  | zero => intro _; exact Nat.zero_le _
  | succ n ih =>
    intro h
    show ip_sum f n + f n ≤ (n + 1) * B
    have h1 := ih (fun j hj => h j (by omega))
    have h2 := h n (by omega)
    rw [Nat.add_mul, Nat.one_mul]
    omega
theorem ip_sum_add {f g : Nat → Nat} : ∀ n, ip_sum (fun j => f j + g j) n = ip_sum f n + ip_sum g n := by
  intro n
  induction n with
  | zero => rfl
  | succ n ih =>
    show ip_sum (fun j => f j + g j) n + (f n + g n) = (ip_sum f n + f n) + (ip_sum g n + g n)
    rw [ih]; omega
theorem ip_sum_mul {f : Nat → Nat} (a : Nat) : ∀ n, ip_sum (fun j => a * f j) n = a * ip_sum f n := by
  intro n
  induction n with
  | zero => rfl
  | succ n ih =>
    show ip_sum (fun j => a * f j) n + a * f n = a * (ip_sum f n + f n)
    rw [ih, Nat.mul_add]
theorem ip_sum_const (a : Nat) : ∀ n, ip_sum (fun _ => a) n = n * a := by
  intro n
  induction n with
  | zero => exact (Nat.zero_mul a).symm
  | succ n ih =>
    show ip_sum (fun _ => a) n + a = (n + 1) * a
    rw [ih, Nat.add_mul, Nat.one_mul]
theorem ip_sum_mono {f : Nat → Nat} : ∀ {a b : Nat}, a ≤ b → ip_sum f a ≤ ip_sum f b := by
  intro a b h
  induction b with
  | zero => have e : a = 0 := by omega
            subst e; exact Nat.le_refl _
  | succ b ih =>
    by_cases e : a = b + 1
    · subst e; exact Nat.le_refl _
    · have h1 := ih (by omega)
      show ip_sum f a ≤ ip_sum f b + f b
      omega
theorem ip_sum_ex {f g : Nat → Nat} {n : Nat} (h : ip_sum f n < ip_sum g n) : ∃ j, j < n ∧ f j < g j := by
  by_cases e : ∃ j, j < n ∧ f j < g j
  · exact e
  · have h1 : ip_sum g n ≤ ip_sum f n := ip_sum_le n (fun j hj => by
      by_cases e2 : f j < g j
      · exact absurd ⟨j, hj, e2⟩ e
      · omega)
    omega
/-- equal sums, not equal: one above, one below -/
theorem ip_sum_two {f g : Nat → Nat} {n : Nat} (h : ip_sum f n = ip_sum g n) (hc : ∃ c, c < n ∧ f c ≠ g c) : (∃ c, c < n ∧ g c < f c) ∧ ∃ d, d < n ∧ f d < g d := by
  obtain ⟨c, hc, hn⟩ := hc
  constructor
  · by_cases e : ∃ j, j < n ∧ g j < f j
    · exact e
    · have hle : ∀ j, j < n → f j ≤ g j := fun j hj => by
        by_cases e2 : g j < f j
        · exact absurd ⟨j, hj, e2⟩ e
        · omega
      have h2 := ip_sum_lt n hle ⟨c, hc, by have := hle c hc; omega⟩
      omega
  · by_cases e : ∃ j, j < n ∧ f j < g j
    · exact e
    · have hle : ∀ j, j < n → g j ≤ f j := fun j hj => by
        by_cases e2 : f j < g j
        · exact absurd ⟨j, hj, e2⟩ e
        · omega
      have h2 := ip_sum_lt n hle ⟨c, hc, by have := hle c hc; omega⟩
      omega
theorem ip_sum_full {f g : Nat → Nat} {n : Nat} (hle : ∀ j, j < n → f j ≤ g j) (h : ip_sum f n = ip_sum g n) : ∀ j, j < n → f j = g j := by
  intro j hj
  by_cases e : f j = g j
  · exact e
  · have := ip_sum_lt n hle ⟨j, hj, by have := hle j hj; omega⟩
    omega
/-- one more for c -/
def ip_inc (f : Nat → Nat) (c : Nat) : Nat → Nat := fun j => if j = c then f j + 1 else f j
theorem ip_inc_s {f : Nat → Nat} {c : Nat} : ip_inc f c c = f c + 1 := if_pos rfl
theorem ip_inc_n {f : Nat → Nat} {c j : Nat} (h : j ≠ c) : ip_inc f c j = f j := if_neg h
theorem ip_sum_inc {f : Nat → Nat} {c : Nat} : ∀ n, c < n → ip_sum (ip_inc f c) n = ip_sum f n + 1 := by
  intro n
  induction n with
  | zero => intro h; omega
  | succ n ih =>
    intro h
    show ip_sum (ip_inc f c) n + ip_inc f c n = ip_sum f n + f n + 1
    by_cases e : c = n
    · subst e
      rw [ip_inc_s, ip_sum_congr (g := f) c (fun j hj => ip_inc_n (by omega))]
      omega
    · rw [ip_inc_n (by omega), ih (by omega)]
      omega
/-- lt c i d j: unit i of c is strictly better than unit j of d: a weak order, later units of one creditor not better -/
def ip_Ord (lt : Nat → Nat → Nat → Nat → Prop) : Prop :=
  (∀ a i b j, lt a i b j → ¬ lt b j a i) ∧ (∀ a i b j d k, lt a i b j → lt a i d k ∨ lt d k b j) ∧ (∀ a i i', i ≤ i' → ¬ lt a i' a i)
def ip_B (lt : Nat → Nat → Nat → Nat → Prop) (c i d j : Nat) : Prop := lt c i d j ∨ (¬ lt d j c i ∧ c < d)
theorem ip_B_mono {lt : Nat → Nat → Nat → Nat → Prop} (O : ip_Ord lt) {a i i' c j j' : Nat} (h : ip_B lt a i c j) (hi : i' ≤ i) (hj : j ≤ j') : ip_B lt a i' c j' := by
  obtain ⟨_, O2, O3⟩ := O
  cases h with
  | inl h =>
    cases O2 _ _ _ _ a i' h with
    | inl z => exact absurd z (O3 _ _ _ hi)
    | inr z =>
      cases O2 _ _ _ _ c j' z with
      | inl y => exact Or.inl y
      | inr y => exact absurd y (O3 _ _ _ hj)
  | inr h =>
    refine Or.inr ⟨fun z => ?_, h.2⟩
    cases O2 _ _ _ _ c j z with
    | inl y => exact absurd y (O3 _ _ _ hj)
    | inr y =>
      cases O2 _ _ _ _ a i y with
      | inl x => exact h.1 x
      | inr x => exact absurd x (O3 _ _ _ hi)
theorem ip_B_asym {lt : Nat → Nat → Nat → Nat → Prop} (O : ip_Ord lt) {a i c j : Nat} (h : ip_B lt a i c j) : ¬ ip_B lt c j a i := by
  intro h2
  cases h with
  | inl h =>
    cases h2 with
    | inl z => exact O.1 _ _ _ _ h z
    | inr z => exact z.1 h
  | inr h =>
    cases h2 with
    | inl z => exact h.1 z
    | inr z => omega
/-- the first p units in the order, under the limits l -/
def ip_Good (lt : Nat → Nat → Nat → Nat → Prop) (n : Nat) (l : Nat → Nat) (p : Nat) (h : Nat → Nat) : Prop :=
  ip_sum h n = p ∧ (∀ c, c < n → h c ≤ l c) ∧ ∀ c d, c < n → d < n → c ≠ d → 0 < h c → h d < l d → ip_B lt c (h c - 1) d (h d)
theorem ip_Good_uniq {lt : Nat → Nat → Nat → Nat → Prop} (O : ip_Ord lt) {n p : Nat} {l h h' : Nat → Nat} (G : ip_Good lt n l p h) (G' : ip_Good lt n l p h') : ∀ c, c < n → h c = h' c := by
  intro c hc
  by_cases e : h c = h' c
  · exact e
  · obtain ⟨⟨a, ha, ha2⟩, b, hb, hb2⟩ := ip_sum_two (G.1.trans G'.1.symm) ⟨c, hc, e⟩
    have hab : a ≠ b := by intro z; subst z; omega
    have hlb := G'.2.1 b hb
    have hla := G.2.1 a ha
    have h1 := G.2.2 a b ha hb hab (by omega) (by omega)
    have h2 := G'.2.2 b a hb ha (Ne.symm hab) (by omega) (by omega)
    have h3 := ip_B_mono O h1 (i' := h' a) (j' := h' b - 1) (by omega) (by omega)
    exact absurd h2 (ip_B_asym O h3)
/-- b comes before all other candidates below m -/
def ip_Bb (lt : Nat → Nat → Nat → Nat → Prop) (cand : Nat → Prop) (h : Nat → Nat) (m b : Nat) : Prop :=
  b < m ∧ cand b ∧ ∀ d, d < m → cand d → d ≠ b → ip_B lt b (h b) d (h d)
theorem ip_Bb_skip {lt : Nat → Nat → Nat → Nat → Prop} {cand : Nat → Prop} {h : Nat → Nat} {m b : Nat} (H : ip_Bb lt cand h m b) (hn : ¬ cand m) : ip_Bb lt cand h (m + 1) b := by
  refine ⟨by have := H.1; omega, H.2.1, fun d hd cd hne => ?_⟩
  by_cases e : d = m
  · subst e; exact absurd cd hn
  · exact H.2.2 d (by omega) cd hne
theorem ip_Bb_new {lt : Nat → Nat → Nat → Nat → Prop} {cand : Nat → Prop} {h : Nat → Nat} {m : Nat} (H : ∀ c, c < m → ¬ cand c) (hc : cand m) : ip_Bb lt cand h (m + 1) m := by
  refine ⟨by omega, hc, fun d hd cd hne => ?_⟩
  exact absurd cd (H d (by omega))
theorem ip_Bb_take {lt : Nat → Nat → Nat → Nat → Prop} (O : ip_Ord lt) {cand : Nat → Prop} {h : Nat → Nat} {m b : Nat} (H : ip_Bb lt cand h m b) (hc : cand m) (hl : lt m (h m) b (h b)) : ip_Bb lt cand h (m + 1) m := by
  refine ⟨by omega, hc, fun d hd cd hne => Or.inl ?_⟩
  by_cases e : d = b
  · subst e; exact hl
  · have hB := H.2.2 d (by omega) cd e
    cases O.2.1 _ _ _ _ d (h d) hl with
    | inl z => exact z
    | inr z =>
      cases hB with
      | inl y => exact absurd y (O.1 _ _ _ _ z)
      | inr y => exact absurd z y.1
theorem ip_Bb_keep {lt : Nat → Nat → Nat → Nat → Prop} {cand : Nat → Prop} {h : Nat → Nat} {m b : Nat} (H : ip_Bb lt cand h m b) (hl : ¬ lt m (h m) b (h b)) : ip_Bb lt cand h (m + 1) b := by
  refine ⟨by have := H.1; omega, H.2.1, fun d hd cd hne => ?_⟩
  by_cases e : d = m
  · subst e; exact Or.inr ⟨hl, H.1⟩
  · exact H.2.2 d (by omega) cd hne
theorem ip_Bb_ex {lt : Nat → Nat → Nat → Nat → Prop} (O : ip_Ord lt) {cand : Nat → Prop} {h : Nat → Nat} : ∀ m, (∀ c, c < m → ¬ cand c) ∨ ∃ b, ip_Bb lt cand h m b := by
  intro m
  induction m with
  | zero => exact Or.inl (fun c hc => by omega)
  | succ m ih =>
    by_cases hc : cand m
    · cases ih with
      | inl H => exact Or.inr ⟨m, ip_Bb_new H hc⟩
      | inr H =>
        obtain ⟨b, H⟩ := H
        by_cases hl : lt m (h m) b (h b)
        · exact Or.inr ⟨m, ip_Bb_take O H hc hl⟩
        · exact Or.inr ⟨b, ip_Bb_keep H hl⟩
    · cases ih with
      | inl H =>
        refine Or.inl (fun c hcm => ?_)
        by_cases e : c = m
        · subst e; exact hc
        · exact H c (by omega)
      | inr H =>
        obtain ⟨b, H⟩ := H
        exact Or.inr ⟨b, ip_Bb_skip H hc⟩
/-- the greedy step -/
theorem ip_Good_step {lt : Nat → Nat → Nat → Nat → Prop} (O : ip_Ord lt) {n p b : Nat} {l h : Nat → Nat} {cand : Nat → Prop} (G : ip_Good lt n l p h) (hcd : ∀ c, c < n → (cand c ↔ h c < l c)) (H : ip_Bb lt cand h n b) : ip_Good lt n l (p + 1) (ip_inc h b) := by
  obtain ⟨Gs, Gl, Gp⟩ := G
  obtain ⟨hb, cb, Hb⟩ := H
  have hlb := (hcd b hb).mp cb
  refine ⟨by rw [ip_sum_inc n hb, Gs], fun c hc => ?_, fun c d hc hd hne h0 hdl => ?_⟩
  · by_cases e : c = b
    · subst e; rw [ip_inc_s]; omega
    · rw [ip_inc_n e]; exact Gl c hc
  · by_cases ec : c = b
    · subst ec
      have ed : d ≠ c := Ne.symm hne
      rw [ip_inc_n ed] at hdl ⊢
      rw [ip_inc_s]
      exact Hb d hd ((hcd d hd).mpr hdl) ed
    · rw [ip_inc_n ec] at h0 ⊢
      by_cases ed : d = b
      · subst ed
        rw [ip_inc_s] at hdl ⊢
        exact ip_B_mono O (Gp c d hc hd hne h0 (by omega)) (Nat.le_refl _) (by omega)
      · rw [ip_inc_n ed] at hdl ⊢
        exact Gp c d hc hd hne h0 hdl
theorem ip_Good_0 {lt : Nat → Nat → Nat → Nat → Prop} {n : Nat} {l h : Nat → Nat} (hz : ∀ c, c < n → h c = 0) : ip_Good lt n l 0 h := by
  refine ⟨?_, fun c hc => by rw [hz c hc]; exact Nat.zero_le _, fun c d hc hd hne h0 hdl => ?_⟩
  · rw [ip_sum_congr (g := fun _ => 0) n (fun j hj => hz j hj), ip_sum_const]; rfl
  · rw [hz c hc] at h0; omega
end
section
/-! the three orders; the closed forms are the first units in their order -/
def ip_EQ (_ : Nat) (i : Nat) (_ : Nat) (j : Nat) : Prop := i < j
def ip_LO (l : Nat → Nat) (c i d j : Nat) : Prop := l d - j < l c - i
def ip_SH (w : Nat → Nat) (c i d j : Nat) : Prop := w d * (i + 1) < w c * (j + 1)
theorem ip_O_EQ : ip_Ord ip_EQ := by
  unfold ip_Ord ip_EQ
  refine ⟨fun a i b j h => by omega, fun a i b j d k h => by omega, fun a i i' h => by omega⟩
theorem ip_O_LO (l : Nat → Nat) : ip_Ord (ip_LO l) := by
  unfold ip_Ord ip_LO
  refine ⟨fun a i b j h => by omega, fun a i b j d k h => by omega, fun a i i' h => by omega⟩
theorem ip_O_SH (w : Nat → Nat) : ip_Ord (ip_SH w) := by
  unfold ip_Ord ip_SH
  refine ⟨fun a i b j h => Nat.lt_asymm h, fun a i b j d k h => ?_, fun a i i' h => Nat.not_lt.mpr (Nat.mul_le_mul_left _ (by omega))⟩
  by_cases h1 : w d * (i + 1) < w a * (k + 1)
  · exact Or.inl h1
  · by_cases h2 : w b * (k + 1) < w d * (j + 1)
    · exact Or.inr h2
    · exfalso
      have h3 := Nat.mul_le_mul_right (j + 1) (Nat.not_lt.mp h1)
      have h4 := Nat.mul_le_mul_right (i + 1) (Nat.not_lt.mp h2)
      have e1 : w d * (i + 1) * (j + 1) = w d * (j + 1) * (i + 1) := Nat.mul_right_comm _ _ _
      have e2 : w a * (k + 1) * (j + 1) = w a * (j + 1) * (k + 1) := Nat.mul_right_comm _ _ _
      have e3 : w b * (k + 1) * (i + 1) = w b * (i + 1) * (k + 1) := Nat.mul_right_comm _ _ _
      rw [e1, e2] at h3
      rw [e3] at h4
      have h5 : w a * (j + 1) ≤ w b * (i + 1) := Nat.le_of_mul_le_mul_right (Nat.le_trans h3 h4) (Nat.succ_pos k)
      omega
/-- a unit more for the first ones that are marked -/
def ip_bit (q : Nat → Nat) (rest : Nat) : Nat → Nat := fun j => if 0 < q j ∧ ip_sum q j < rest then 1 else 0
theorem ip_bit_le (q : Nat → Nat) (rest j : Nat) : ip_bit q rest j ≤ 1 := by
  unfold ip_bit; split <;> omega
theorem ip_bit_1 {q : Nat → Nat} {rest j : Nat} (h : 0 < q j) (h2 : ip_sum q j < rest) : ip_bit q rest j = 1 := if_pos ⟨h, h2⟩
theorem ip_bit_0 {q : Nat → Nat} {rest j : Nat} (h : ¬ (0 < q j ∧ ip_sum q j < rest)) : ip_bit q rest j = 0 := if_neg h
theorem ip_bit_of {q : Nat → Nat} {rest j : Nat} (h : 0 < ip_bit q rest j) : 0 < q j ∧ ip_sum q j < rest := by
  unfold ip_bit at h
  by_cases e : 0 < q j ∧ ip_sum q j < rest
  · exact e
  · rw [if_neg e] at h; omega
theorem ip_bit_sum {q : Nat → Nat} (hq : ∀ j, q j ≤ 1) (rest : Nat) : ∀ i, ip_sum (ip_bit q rest) i = min rest (ip_sum q i) := by
  intro i
  induction i with
  | zero => show 0 = min rest 0; omega
  | succ i ih =>
    show ip_sum (ip_bit q rest) i + ip_bit q rest i = min rest (ip_sum q i + q i)
    rw [ih]
    have h1 := hq i
    by_cases e : 0 < q i ∧ ip_sum q i < rest
    · rw [ip_bit_1 e.1 e.2]; omega
    · rw [ip_bit_0 e]; omega
theorem ip_bit_first {q : Nat → Nat} {rest c d : Nat} (hc : 0 < ip_bit q rest c) (hd : 0 < q d) (hd0 : ip_bit q rest d = 0) : c < d := by
  have h1 := ip_bit_of hc
  by_cases e : c < d
  · exact e
  · have h2 := ip_sum_mono (f := q) (a := d) (b := c) (by omega)
    rw [ip_bit_1 hd (by omega)] at hd0
    omega
/-! awards -/
def ip_cut (L : Nat) (l : Nat → Nat) : Nat → Nat := fun j => min (l j) L
def ip_ab (L : Nat) (l : Nat → Nat) : Nat → Nat := fun j => if L < l j then 1 else 0
theorem ip_ab_le (L : Nat) (l : Nat → Nat) (j : Nat) : ip_ab L l j ≤ 1 := by
  unfold ip_ab; split <;> omega
theorem ip_ab_pos {L : Nat} {l : Nat → Nat} {j : Nat} : 0 < ip_ab L l j ↔ L < l j := by
  unfold ip_ab; split <;> omega
def ip_aw (n L u : Nat) (l : Nat → Nat) : Nat → Nat := fun j => ip_cut L l j + ip_bit (ip_ab L l) (u - ip_sum (ip_cut L l) n) j
theorem ip_cut_up (L : Nat) (l : Nat → Nat) (n : Nat) : ip_sum (ip_cut (L + 1) l) n = ip_sum (ip_cut L l) n + ip_sum (ip_ab L l) n := by
  rw [← ip_sum_add]
  refine ip_sum_congr n (fun j _ => ?_)
  unfold ip_cut ip_ab
  split <;> omega
theorem ip_aw_Good {n L u : Nat} {l : Nat → Nat} (h1 : ip_sum (ip_cut L l) n ≤ u) (h2 : u - ip_sum (ip_cut L l) n ≤ ip_sum (ip_ab L l) n) : ip_Good ip_EQ n l u (ip_aw n L u l) := by
  refine ⟨?_, fun c hc => ?_, fun c d hc hd hne h0 hdl => ?_⟩
  · unfold ip_aw
    rw [ip_sum_add, ip_bit_sum (ip_ab_le L l)]
    omega
  · show min (l c) L + ip_bit (ip_ab L l) _ c ≤ l c
    by_cases e : 0 < ip_bit (ip_ab L l) (u - ip_sum (ip_cut L l) n) c
    · have h3 := ip_ab_pos.mp (ip_bit_of e).1
      have h4 := ip_bit_le (ip_ab L l) (u - ip_sum (ip_cut L l) n) c
      omega
    · omega
  · have hc' : ip_aw n L u l c = min (l c) L + ip_bit (ip_ab L l) (u - ip_sum (ip_cut L l) n) c := rfl
    have hd' : ip_aw n L u l d = min (l d) L + ip_bit (ip_ab L l) (u - ip_sum (ip_cut L l) n) d := rfl
    have bc := ip_bit_le (ip_ab L l) (u - ip_sum (ip_cut L l) n) c
    have bd := ip_bit_le (ip_ab L l) (u - ip_sum (ip_cut L l) n) d
    have hld : L < l d := by omega
    unfold ip_B ip_EQ
    by_cases e : ip_aw n L u l c - 1 < ip_aw n L u l d
    · exact Or.inl e
    · refine Or.inr ⟨by omega, ?_⟩
      refine ip_bit_first (q := ip_ab L l) (rest := u - ip_sum (ip_cut L l) n) ?_ (ip_ab_pos.mpr hld) ?_
      · omega
      · omega
/-! losses -/
def ip_ov (M : Nat) (l : Nat → Nat) : Nat → Nat := fun j => l j - M
def ip_at (M : Nat) (l : Nat → Nat) : Nat → Nat := fun j => if M ≤ l j ∧ 0 < l j ∧ 0 < M then 1 else 0
theorem ip_at_le (M : Nat) (l : Nat → Nat) (j : Nat) : ip_at M l j ≤ 1 := by
  unfold ip_at; split <;> omega
theorem ip_at_pos {M : Nat} {l : Nat → Nat} {j : Nat} : 0 < ip_at M l j ↔ M ≤ l j ∧ 0 < l j ∧ 0 < M := by
  unfold ip_at
  by_cases e : M ≤ l j ∧ 0 < l j ∧ 0 < M
  · rw [if_pos e]; exact ⟨fun _ => e, fun _ => by omega⟩
  · rw [if_neg e]; exact ⟨fun z => by omega, fun z => absurd z e⟩
def ip_ls (n M u : Nat) (l : Nat → Nat) : Nat → Nat := fun j => ip_ov M l j + ip_bit (ip_at M l) (u - ip_sum (ip_ov M l) n) j
theorem ip_ov_up (M : Nat) (l : Nat → Nat) (n : Nat) : ip_sum (ip_ov M l) n = ip_sum (ip_ov (M + 1) l) n + ip_sum (ip_at (M + 1) l) n := by
  rw [← ip_sum_add]
  refine ip_sum_congr n (fun j _ => ?_)
  unfold ip_ov ip_at
  split <;> omega
theorem ip_ls_Good {n M u : Nat} {l : Nat → Nat} (h1 : ip_sum (ip_ov M l) n ≤ u) (h2 : u - ip_sum (ip_ov M l) n ≤ ip_sum (ip_at M l) n) : ip_Good (ip_LO l) n l u (ip_ls n M u l) := by
  refine ⟨?_, fun c hc => ?_, fun c d hc hd hne h0 hdl => ?_⟩
  · unfold ip_ls
    rw [ip_sum_add, ip_bit_sum (ip_at_le M l)]
    omega
  · show (l c - M) + ip_bit (ip_at M l) _ c ≤ l c
    by_cases e : 0 < ip_bit (ip_at M l) (u - ip_sum (ip_ov M l) n) c
    · have h3 := ip_at_pos.mp (ip_bit_of e).1
      have h4 := ip_bit_le (ip_at M l) (u - ip_sum (ip_ov M l) n) c
      omega
    · omega
  · have hc' : ip_ls n M u l c = (l c - M) + ip_bit (ip_at M l) (u - ip_sum (ip_ov M l) n) c := rfl
    have hd' : ip_ls n M u l d = (l d - M) + ip_bit (ip_at M l) (u - ip_sum (ip_ov M l) n) d := rfl
    have bc := ip_bit_le (ip_at M l) (u - ip_sum (ip_ov M l) n) c
    have bd := ip_bit_le (ip_at M l) (u - ip_sum (ip_ov M l) n) d
    unfold ip_B ip_LO
    by_cases e : l d - ip_ls n M u l d < l c - (ip_ls n M u l c - 1)
    · exact Or.inl e
    · have hbc : 0 < ip_bit (ip_at M l) (u - ip_sum (ip_ov M l) n) c := by omega
      have h3 := ip_at_pos.mp (ip_bit_of hbc).1
      have hbd : ip_bit (ip_at M l) (u - ip_sum (ip_ov M l) n) d = 0 := by omega
      have hd3 : 0 < ip_at M l d := ip_at_pos.mpr ⟨by omega, by omega, h3.2.2⟩
      exact Or.inr ⟨by omega, ip_bit_first hbc hd3 hbd⟩
/-! quotas -/
def ip_qu (p S : Nat) (W : Nat → Nat) : Nat → Nat := fun j => p * W j / S
theorem ip_qu_lo {p S : Nat} {W : Nat → Nat} (j : Nat) : S * ip_qu p S W j ≤ p * W j := Nat.mul_div_le _ _
theorem ip_qu_hi {p S : Nat} {W : Nat → Nat} (hS : 0 < S) (j : Nat) : p * W j < S * (ip_qu p S W j + 1) := Nat.lt_mul_div_succ _ hS
theorem ip_qu_Good {n p : Nat} {W : Nat → Nat} (hS : 0 < ip_sum W n) (hp : p ≤ ip_sum W n) : ip_Good (ip_SH W) n W (ip_sum (ip_qu p (ip_sum W n) W) n) (ip_qu p (ip_sum W n) W) := by
  refine ⟨rfl, fun c hc => ?_, fun c d hc hd hne h0 hdl => Or.inl ?_⟩
  · exact Nat.div_le_of_le_mul (Nat.mul_le_mul_right _ hp)
  · show W d * (ip_qu p (ip_sum W n) W c - 1 + 1) < W c * (ip_qu p (ip_sum W n) W d + 1)
    have h1 := ip_qu_lo (p := p) (S := ip_sum W n) (W := W) c
    have h2 := ip_qu_hi (p := p) (W := W) hS d
    generalize ip_qu p (ip_sum W n) W c = x at *
    generalize ip_qu p (ip_sum W n) W d = y at *
    generalize ip_sum W n = S at *
    have hc0 : 0 < W c := by
      by_cases z : W c = 0
      · rw [z, Nat.mul_zero] at h1
        have : 0 < S * x := Nat.mul_pos hS h0
        omega
      · omega
    rw [Nat.sub_add_cancel h0]
    refine Nat.lt_of_mul_lt_mul_left (a := S) ?_
    have h3 := Nat.mul_le_mul_right (W d) h1
    have h4 := Nat.mul_lt_mul_of_pos_left h2 hc0
    have e1 : S * (W d * x) = S * x * W d := by rw [Nat.mul_comm (W d) x, Nat.mul_assoc]
    have e2 : S * (W c * (y + 1)) = W c * (S * (y + 1)) := Nat.mul_left_comm _ _ _
    have e3 : p * W c * W d = W c * (p * W d) := by rw [Nat.mul_comm p (W c), Nat.mul_assoc]
    rw [e1, e2]
    rw [e3] at h3
    exact Nat.lt_of_le_of_lt h3 h4
theorem ip_qu_sum {n p : Nat} {W : Nat → Nat} (hS : 0 < ip_sum W n) : ip_sum (ip_qu p (ip_sum W n) W) n ≤ p ∧ p ≤ ip_sum (ip_qu p (ip_sum W n) W) n + n := by
  have h1 : ip_sum (fun j => ip_sum W n * ip_qu p (ip_sum W n) W j) n ≤ ip_sum (fun j => p * W j) n := ip_sum_le n (fun j _ => ip_qu_lo j)
  have h2 : ip_sum (fun j => p * W j) n ≤ ip_sum (fun j => ip_sum W n * (ip_qu p (ip_sum W n) W j + 1)) n := ip_sum_le n (fun j _ => Nat.le_of_lt (ip_qu_hi hS j))
  rw [ip_sum_mul, ip_sum_mul] at h1
  rw [ip_sum_mul, ip_sum_mul (f := fun j => ip_qu p (ip_sum W n) W j + 1), ip_sum_add, ip_sum_const, Nat.mul_one] at h2
  rw [Nat.mul_comm p] at h1 h2
  exact ⟨Nat.le_of_mul_le_mul_left h1 hS, Nat.le_of_mul_le_mul_left h2 hS⟩
end
section
/-! one rank under its rule; all four ranks; the state after k units -/
theorem ip_Good_congr {lt : Nat → Nat → Nat → Nat → Prop} {n p : Nat} {l h h' : Nat → Nat} (G : ip_Good lt n l p h) (e : ∀ c, c < n → h c = h' c) : ip_Good lt n l p h' := by
  refine ⟨by rw [← G.1]; exact (ip_sum_congr n e).symm, fun c hc => by rw [← e c hc]; exact G.2.1 c hc, fun c d hc hd hne h0 hdl => ?_⟩
  rw [← e c hc] at h0 ⊢
  rw [← e d hd] at hdl ⊢
  exact G.2.2 c d hc hd hne h0 hdl
theorem ip_Good_LO {n p : Nat} {l l' h : Nat → Nat} (G : ip_Good (ip_LO l) n l p h) (e : ∀ c, c < n → l c = l' c) : ip_Good (ip_LO l') n l' p h := by
  refine ⟨G.1, fun c hc => by rw [← e c hc]; exact G.2.1 c hc, fun c d hc hd hne h0 hdl => ?_⟩
  rw [← e d hd] at hdl
  have h1 := G.2.2 c d hc hd hne h0 hdl
  unfold ip_B ip_LO at h1 ⊢
  rw [← e c hc, ← e d hd]
  exact h1
theorem ip_Bb_map {lt lt' : Nat → Nat → Nat → Nat → Prop} {cand cand' : Nat → Prop} {h h' : Nat → Nat} {m b : Nat} (H : ip_Bb lt cand h m b) (hc : ∀ c, c < m → (cand c ↔ cand' c)) (hl : ∀ c d, c < m → d < m → (lt c (h c) d (h d) ↔ lt' c (h' c) d (h' d))) : ip_Bb lt' cand' h' m b := by
  obtain ⟨hb, cb, H⟩ := H
  refine ⟨hb, (hc b hb).mp cb, fun d hd cd hne => ?_⟩
  have h1 := H d hd ((hc d hd).mpr cd) hne
  unfold ip_B at h1 ⊢
  rw [← hl b d hb hd, ← hl d b hd hb]
  exact h1
def ip_msk (rk : Nat → Nat) (r : Nat) (f : Nat → Nat) : Nat → Nat := fun c => if rk c = r then f c else 0
theorem ip_msk_s {rk f : Nat → Nat} {r c : Nat} (h : rk c = r) : ip_msk rk r f c = f c := if_pos h
theorem ip_msk_n {rk f : Nat → Nat} {r c : Nat} (h : rk c ≠ r) : ip_msk rk r f c = 0 := if_neg h
def ip_hf (W : Nat → Nat) : Nat → Nat := fun c => (W c + 1) / 2
def ip_sb (W g : Nat → Nat) : Nat → Nat := fun c => W c - g c
def ip_RG (n u : Nat) (W : Nat → Nat) (p : Nat) (m : Nat → Nat) : Prop :=
  (u = 0 → ip_Good ip_EQ n W p m) ∧ (u = 1 → ip_Good (ip_LO W) n W p m) ∧ (u = 2 → ip_Good (ip_SH W) n W p m) ∧
  (3 ≤ u → ∃ g h : Nat → Nat, (∀ c, c < n → m c = g c + h c) ∧ ip_Good ip_EQ n (ip_hf W) (min p ((ip_sum W n + 1) / 2)) g ∧ ip_Good (ip_LO (ip_sb W g)) n (ip_sb W g) (p - (ip_sum W n + 1) / 2) h)
theorem ip_u4 (u : Nat) : u = 0 ∨ u = 1 ∨ u = 2 ∨ 3 ≤ u := by omega
theorem ip_RG_le {n u p : Nat} {W m : Nat → Nat} (H : ip_RG n u W p m) : ∀ c, c < n → m c ≤ W c := by
  intro c hc
  obtain ⟨H0, H1, H2, H3⟩ := H
  rcases ip_u4 u with e | e | e | e
  · exact (H0 e).2.1 c hc
  · exact (H1 e).2.1 c hc
  · exact (H2 e).2.1 c hc
  · obtain ⟨g, h, hm, G1, G2⟩ := H3 e
    have h1 : g c ≤ (W c + 1) / 2 := G1.2.1 c hc
    have h2 : h c ≤ W c - g c := G2.2.1 c hc
    have h3 := hm c hc
    omega
theorem ip_RG_sum {n u p : Nat} {W m : Nat → Nat} (H : ip_RG n u W p m) : ip_sum m n = p := by
  obtain ⟨H0, H1, H2, H3⟩ := H
  rcases ip_u4 u with e | e | e | e
  · exact (H0 e).1
  · exact (H1 e).1
  · exact (H2 e).1
  · obtain ⟨g, h, hm, G1, G2⟩ := H3 e
    rw [ip_sum_congr n hm, ip_sum_add, G1.1, G2.1]
    omega
theorem ip_RG_congr {n u p : Nat} {W m m' : Nat → Nat} (H : ip_RG n u W p m) (he : ∀ c, c < n → m c = m' c) : ip_RG n u W p m' := by
  obtain ⟨H0, H1, H2, H3⟩ := H
  refine ⟨fun e => ip_Good_congr (H0 e) he, fun e => ip_Good_congr (H1 e) he, fun e => ip_Good_congr (H2 e) he, fun e => ?_⟩
  obtain ⟨g, h, hm, G1, G2⟩ := H3 e
  exact ⟨g, h, fun c hc => by rw [← he c hc]; exact hm c hc, G1, G2⟩
theorem ip_RG_uniq {n u p : Nat} {W m m' : Nat → Nat} (H : ip_RG n u W p m) (H' : ip_RG n u W p m') : ∀ c, c < n → m c = m' c := by
  intro c hc
  obtain ⟨H0, H1, H2, H3⟩ := H
  obtain ⟨H0', H1', H2', H3'⟩ := H'
  rcases ip_u4 u with e | e | e | e
  · exact ip_Good_uniq ip_O_EQ (H0 e) (H0' e) c hc
  · exact ip_Good_uniq (ip_O_LO W) (H1 e) (H1' e) c hc
  · exact ip_Good_uniq (ip_O_SH W) (H2 e) (H2' e) c hc
  · obtain ⟨g, h, hm, G1, G2⟩ := H3 e
    obtain ⟨g', h', hm', G1', G2'⟩ := H3' e
    have e1 := ip_Good_uniq ip_O_EQ G1 G1'
    have e2 := ip_Good_uniq (ip_O_LO (ip_sb W g)) G2 (ip_Good_LO G2' (fun c hc => by unfold ip_sb; rw [e1 c hc]))
    rw [hm c hc, hm' c hc, e1 c hc, e2 c hc]
theorem ip_RG_0 {n u : Nat} {W m : Nat → Nat} (hz : ∀ c, c < n → m c = 0) : ip_RG n u W 0 m := by
  refine ⟨fun _ => ip_Good_0 hz, fun _ => ip_Good_0 hz, fun _ => ip_Good_0 hz, fun _ => ⟨fun _ => 0, fun _ => 0, fun c hc => hz c hc, ?_, ?_⟩⟩
  · rw [show min 0 ((ip_sum W n + 1) / 2) = 0 by omega]; exact ip_Good_0 (fun _ _ => rfl)
  · rw [show 0 - (ip_sum W n + 1) / 2 = 0 by omega]; exact ip_Good_0 (fun _ _ => rfl)
/-- who comes first under rule u; hf: the first half is still being shared -/
def ip_cmp (u : Nat) (hf : Bool) (W : Nat → Nat) : Nat → Nat → Nat → Nat → Prop :=
  if u = 0 ∨ hf = true then ip_EQ else if u = 2 then ip_SH W else ip_LO W
def ip_cand (hf : Bool) (W m : Nat → Nat) (c : Nat) : Prop := m c < W c ∧ (hf = true → 2 * m c < W c)
theorem ip_cmp_eq {u : Nat} {hf : Bool} {W : Nat → Nat} (h : u = 0 ∨ hf = true) : ip_cmp u hf W = ip_EQ := if_pos h
theorem ip_cmp_sh {u : Nat} {hf : Bool} {W : Nat → Nat} (h : ¬ (u = 0 ∨ hf = true)) (h2 : u = 2) : ip_cmp u hf W = ip_SH W := by
  unfold ip_cmp; rw [if_neg h, if_pos h2]
theorem ip_cmp_lo {u : Nat} {hf : Bool} {W : Nat → Nat} (h : ¬ (u = 0 ∨ hf = true)) (h2 : u ≠ 2) : ip_cmp u hf W = ip_LO W := by
  unfold ip_cmp; rw [if_neg h, if_neg h2]
theorem ip_O_cmp (u : Nat) (hf : Bool) (W : Nat → Nat) : ip_Ord (ip_cmp u hf W) := by
  by_cases h : u = 0 ∨ hf = true
  · rw [ip_cmp_eq h]; exact ip_O_EQ
  · by_cases h2 : u = 2
    · rw [ip_cmp_sh h h2]; exact ip_O_SH W
    · rw [ip_cmp_lo h h2]; exact ip_O_LO W
theorem ip_RG_step {n u p b : Nat} {hf : Bool} {W m : Nat → Nat} (H : ip_RG n u W p m) (hu : u ≤ 3) (hh : hf = true ↔ u = 3 ∧ 2 * p < ip_sum W n) (B : ip_Bb (ip_cmp u hf W) (ip_cand hf W m) m n b) : ip_RG n u W (p + 1) (ip_inc m b) := by
  obtain ⟨H0, H1, H2, H3⟩ := H
  have hcd : hf ≠ true → ∀ c, c < n → (ip_cand hf W m c ↔ m c < W c) := fun hn c _ => ⟨fun z => z.1, fun z => ⟨z, fun y => absurd y hn⟩⟩
  refine ⟨fun e => ?_, fun e => ?_, fun e => ?_, fun e => ?_⟩
  · have hn : hf ≠ true := fun z => by have := hh.mp z; omega
    rw [ip_cmp_eq (Or.inl e)] at B
    exact ip_Good_step ip_O_EQ (H0 e) (hcd hn) B
  · have hn : hf ≠ true := fun z => by have := hh.mp z; omega
    rw [ip_cmp_lo (fun z => by rcases z with z | z; omega; exact hn z) (by omega)] at B
    exact ip_Good_step (ip_O_LO W) (H1 e) (hcd hn) B
  · have hn : hf ≠ true := fun z => by have := hh.mp z; omega
    rw [ip_cmp_sh (fun z => by rcases z with z | z; omega; exact hn z) e] at B
    exact ip_Good_step (ip_O_SH W) (H2 e) (hcd hn) B
  · obtain ⟨g, h, hm, G1, G2⟩ := H3 e
    by_cases hn : hf = true
    · have h2 := (hh.mp hn).2
      rw [ip_cmp_eq (Or.inr hn)] at B
      have e0 : p - (ip_sum W n + 1) / 2 = 0 := by omega
      rw [e0] at G2
      have hz : ∀ c, c < n → h c = 0 := ip_Good_uniq (ip_O_LO (ip_sb W g)) G2 (ip_Good_0 (h := fun _ => 0) (fun _ _ => rfl))
      have hmg : ∀ c, c < n → m c = g c := fun c hc => by rw [hm c hc, hz c hc]; rfl
      have B2 : ip_Bb ip_EQ (fun c => g c < ip_hf W c) g n b := by
        refine ip_Bb_map B (fun c hc => ?_) (fun c d hc hd => ?_)
        · unfold ip_cand ip_hf
          rw [hmg c hc]
          exact ⟨fun z => by have := z.2 hn; omega, fun z => ⟨by omega, fun _ => by omega⟩⟩
        · unfold ip_EQ
          rw [hmg c hc, hmg d hd]
      have G1' := ip_Good_step ip_O_EQ G1 (fun c _ => Iff.rfl) B2
      refine ⟨ip_inc g b, h, fun c hc => ?_, ?_, ?_⟩
      · by_cases ec : c = b
        · subst ec; rw [ip_inc_s, ip_inc_s, hm c hc]; omega
        · rw [ip_inc_n ec, ip_inc_n ec, hm c hc]
      · rw [show min (p + 1) ((ip_sum W n + 1) / 2) = min p ((ip_sum W n + 1) / 2) + 1 by omega]
        exact G1'
      · rw [show p + 1 - (ip_sum W n + 1) / 2 = 0 by omega]
        exact ip_Good_0 hz
    · have h2 : ip_sum W n ≤ 2 * p := by
        by_cases z : 2 * p < ip_sum W n
        · exact absurd (hh.mpr ⟨by omega, z⟩) hn
        · omega
      rw [ip_cmp_lo (fun z => by rcases z with z | z; omega; exact hn z) (by omega)] at B
      have hgl : ∀ c, c < n → g c ≤ W c := fun c hc => by
        have h1 : g c ≤ (W c + 1) / 2 := G1.2.1 c hc
        omega
      have B2 : ip_Bb (ip_LO (ip_sb W g)) (fun c => h c < ip_sb W g c) h n b := by
        refine ip_Bb_map B (fun c hc => ?_) (fun c d hc hd => ?_)
        · have h1 := hm c hc
          have h3 := hgl c hc
          unfold ip_cand ip_sb
          exact ⟨fun z => by have := z.1; omega, fun z => ⟨by omega, fun y => absurd y hn⟩⟩
        · unfold ip_LO ip_sb
          rw [hm c hc, hm d hd, Nat.sub_add_eq, Nat.sub_add_eq]
      have G2' := ip_Good_step (ip_O_LO (ip_sb W g)) G2 (fun c _ => Iff.rfl) B2
      refine ⟨g, ip_inc h b, fun c hc => ?_, ?_, ?_⟩
      · by_cases ec : c = b
        · subst ec; rw [ip_inc_s, ip_inc_s, hm c hc]; omega
        · rw [ip_inc_n ec, ip_inc_n ec, hm c hc]
      · rw [show min (p + 1) ((ip_sum W n + 1) / 2) = min p ((ip_sum W n + 1) / 2) by omega]
        exact G1
      · rw [show p + 1 - (ip_sum W n + 1) / 2 = p - (ip_sum W n + 1) / 2 + 1 by omega]
        exact G2'
theorem ip_hf_sum (W : Nat → Nat) : ∀ n, ip_sum W n ≤ 2 * ip_sum (ip_hf W) n := by
  intro n
  induction n with
  | zero => exact Nat.zero_le _
  | succ n ih =>
    show ip_sum W n + W n ≤ 2 * (ip_sum (ip_hf W) n + (W n + 1) / 2)
    omega
theorem ip_cand_ex {n u p : Nat} {hf : Bool} {W m : Nat → Nat} (H : ip_RG n u W p m) (hp : p < ip_sum W n) (hh : hf = true → 2 * p < ip_sum W n) : ∃ c, c < n ∧ ip_cand hf W m c := by
  have hs := ip_RG_sum H
  by_cases hn : hf = true
  · have h1 := hh hn
    have h2 := ip_hf_sum W n
    obtain ⟨c, hc, hl⟩ := ip_sum_ex (f := m) (g := ip_hf W) (n := n) (by omega)
    have hl' : m c < (W c + 1) / 2 := hl
    exact ⟨c, hc, by omega, fun _ => by omega⟩
  · obtain ⟨c, hc, hl⟩ := ip_sum_ex (f := m) (g := W) (n := n) (by omega)
    exact ⟨c, hc, hl, fun z => absurd z hn⟩
end
section
/-! all four ranks: the state after k units -/
def ip_tot (n : Nat) (w rk : Nat → Nat) (r : Nat) : Nat := ip_sum (ip_msk rk r w) n
def ip_pre (n : Nat) (w rk : Nat → Nat) (r : Nat) : Nat := ip_sum (ip_tot n w rk) r
def ip_part (n : Nat) (w rk : Nat → Nat) (k r : Nat) : Nat := min (k - ip_pre n w rk r) (ip_tot n w rk r)
def ip_Fin (n : Nat) (w rk ru : Nat → Nat) (k : Nat) (g : Nat → Nat) : Prop :=
  ∀ r, r < 4 → ip_RG n (ru r) (ip_msk rk r w) (ip_part n w rk k r) (ip_msk rk r g)
def ip_Open (n : Nat) (w rk g : Nat → Nat) (r : Nat) : Prop :=
  r < 4 ∧ (∃ c, c < n ∧ rk c = r ∧ g c < w c) ∧ ∀ c, c < n → g c < w c → r ≤ rk c
theorem ip_pre_s (n : Nat) (w rk : Nat → Nat) (r : Nat) : ip_pre n w rk (r + 1) = ip_pre n w rk r + ip_tot n w rk r := rfl
theorem ip_pre_mono {n : Nat} {w rk : Nat → Nat} {a b : Nat} (h : a ≤ b) : ip_pre n w rk a ≤ ip_pre n w rk b := ip_sum_mono h
theorem ip_pre_4 {n : Nat} {w rk : Nat → Nat} (hr : ∀ c, c < n → rk c < 4) : ip_pre n w rk 4 = ip_sum w n := by
  show 0 + ip_sum (ip_msk rk 0 w) n + ip_sum (ip_msk rk 1 w) n + ip_sum (ip_msk rk 2 w) n + ip_sum (ip_msk rk 3 w) n = ip_sum w n
  induction n with
  | zero => rfl
  | succ n ih =>
    have h1 := ih (fun c hc => hr c (by omega))
    have h2 := hr n (by omega)
    show 0 + (ip_sum (ip_msk rk 0 w) n + ip_msk rk 0 w n) + (ip_sum (ip_msk rk 1 w) n + ip_msk rk 1 w n) + (ip_sum (ip_msk rk 2 w) n + ip_msk rk 2 w n) + (ip_sum (ip_msk rk 3 w) n + ip_msk rk 3 w n) = ip_sum w n + w n
    have h3 : ip_msk rk 0 w n + ip_msk rk 1 w n + ip_msk rk 2 w n + ip_msk rk 3 w n = w n := by
      have h4 : rk n = 0 ∨ rk n = 1 ∨ rk n = 2 ∨ rk n = 3 := by omega
      unfold ip_msk
      rcases h4 with e | e | e | e <;> rw [e] <;> simp
    omega
theorem ip_msk_le {n : Nat} {w rk g : Nat → Nat} {r : Nat} (h : ∀ c, c < n → rk c = r → g c ≤ w c) : ∀ c, c < n → ip_msk rk r g c ≤ ip_msk rk r w c := by
  intro c hc
  by_cases e : rk c = r
  · rw [ip_msk_s e, ip_msk_s e]; exact h c hc e
  · rw [ip_msk_n e, ip_msk_n e]; exact Nat.le_refl _
theorem ip_Fin_le {n k : Nat} {w rk ru g : Nat → Nat} (hr : ∀ c, c < n → rk c < 4) (F : ip_Fin n w rk ru k g) : ∀ c, c < n → g c ≤ w c := by
  intro c hc
  have h1 := ip_RG_le (F (rk c) (hr c hc)) c hc
  rw [ip_msk_s rfl, ip_msk_s rfl] at h1
  exact h1
theorem ip_Fin_sum {n k r : Nat} {w rk ru g : Nat → Nat} (F : ip_Fin n w rk ru k g) (h4 : r < 4) : ip_sum (ip_msk rk r g) n = ip_part n w rk k r := ip_RG_sum (F r h4)
theorem ip_Fin_uniq {n k : Nat} {w rk ru g g' : Nat → Nat} (hr : ∀ c, c < n → rk c < 4) (F : ip_Fin n w rk ru k g) (F' : ip_Fin n w rk ru k g') : ∀ c, c < n → g c = g' c := by
  intro c hc
  have h1 := ip_RG_uniq (F (rk c) (hr c hc)) (F' (rk c) (hr c hc)) c hc
  rw [ip_msk_s rfl, ip_msk_s rfl] at h1
  exact h1
theorem ip_Fin_congr {n k : Nat} {w rk ru g g' : Nat → Nat} (F : ip_Fin n w rk ru k g) (e : ∀ c, c < n → g c = g' c) : ip_Fin n w rk ru k g' := by
  intro r h4
  refine ip_RG_congr (F r h4) (fun c hc => ?_)
  unfold ip_msk
  rw [e c hc]
/-- a rank whose members all have their claims -/
theorem ip_Fin_fullrank {n k r : Nat} {w rk ru g : Nat → Nat} (hr : ∀ c, c < n → rk c < 4) (F : ip_Fin n w rk ru k g) (h4 : r < 4) (hf : ∀ c, c < n → rk c = r → ¬ g c < w c) : ip_part n w rk k r = ip_tot n w rk r := by
  rw [← ip_Fin_sum F h4]
  refine ip_sum_congr n (fun c hc => ?_)
  have h1 := ip_Fin_le hr F c hc
  by_cases e : rk c = r
  · rw [ip_msk_s e, ip_msk_s e]; have := hf c hc e; omega
  · rw [ip_msk_n e, ip_msk_n e]
theorem ip_Fin_reach {n k : Nat} {w rk ru g : Nat → Nat} (hr : ∀ c, c < n → rk c < 4) (F : ip_Fin n w rk ru k g) : ∀ r, r ≤ 4 → (∀ c, c < n → rk c < r → ¬ g c < w c) → ip_pre n w rk r ≤ k := by
  intro r
  induction r with
  | zero => intro _ _; exact Nat.zero_le _
  | succ r ih =>
    intro h4 hf
    have h1 := ih (by omega) (fun c hc hlt => hf c hc (by omega))
    have h2 := ip_Fin_fullrank hr F (r := r) (by omega) (fun c hc e => hf c hc (by omega))
    rw [ip_pre_s]
    unfold ip_part at h2
    omega
theorem ip_Fin_open {n k r : Nat} {w rk ru g : Nat → Nat} (hr : ∀ c, c < n → rk c < 4) (F : ip_Fin n w rk ru k g) (O : ip_Open n w rk g r) : ip_pre n w rk r ≤ k ∧ k - ip_pre n w rk r < ip_tot n w rk r := by
  obtain ⟨h4, ⟨c, hc, er, hl⟩, hmin⟩ := O
  have h1 := ip_Fin_reach hr F r (by omega) (fun d hd hlt hdl => by have := hmin d hd hdl; omega)
  have h2 : ip_sum (ip_msk rk r g) n < ip_sum (ip_msk rk r w) n := ip_sum_lt n (ip_msk_le (fun d hd _ => ip_Fin_le hr F d hd)) ⟨c, hc, by rw [ip_msk_s er, ip_msk_s er]; exact hl⟩
  have h3 := ip_Fin_sum F h4
  unfold ip_part ip_tot at h3
  unfold ip_tot
  omega
theorem ip_Fin_full {n k : Nat} {w rk ru g : Nat → Nat} (hr : ∀ c, c < n → rk c < 4) (F : ip_Fin n w rk ru k g) (hf : ∀ c, c < n → ¬ g c < w c) : ip_pre n w rk 4 ≤ k ∧ ip_Fin n w rk ru (k + 1) g := by
  refine ⟨ip_Fin_reach hr F 4 (by omega) (fun c hc _ => hf c hc), fun r h4 => ?_⟩
  have h1 := ip_Fin_fullrank hr F h4 (fun c hc _ => hf c hc)
  have h2 : ip_part n w rk (k + 1) r = ip_part n w rk k r := by
    unfold ip_part at h1 ⊢
    omega
  rw [h2]
  exact F r h4
theorem ip_Fin_step {n k r b : Nat} {hf : Bool} {w rk ru g : Nat → Nat} (hr : ∀ c, c < n → rk c < 4) (hu : ∀ r, r < 4 → ru r ≤ 3) (F : ip_Fin n w rk ru k g) (O : ip_Open n w rk g r)
    (hh : hf = true ↔ ru r = 3 ∧ 2 * ip_sum (ip_msk rk r g) n < ip_tot n w rk r)
    (B : ip_Bb (ip_cmp (ru r) hf (ip_msk rk r w)) (ip_cand hf (ip_msk rk r w) (ip_msk rk r g)) (ip_msk rk r g) n b) : ip_Fin n w rk ru (k + 1) (ip_inc g b) := by
  have h4 := O.1
  obtain ⟨h1, h2⟩ := ip_Fin_open hr F O
  have hb : rk b = r := by
    by_cases e : rk b = r
    · exact e
    · have h3 := B.2.1.1
      rw [ip_msk_n e, ip_msk_n e] at h3
      omega
  intro s hs
  by_cases es : s = r
  · subst es
    have h5 : ip_part n w rk (k + 1) s = ip_part n w rk k s + 1 := by
      unfold ip_part
      omega
    rw [h5]
    rw [ip_Fin_sum F h4] at hh
    refine ip_RG_congr (ip_RG_step (F s h4) (hu s h4) hh B) (fun c hc => ?_)
    by_cases ec : c = b
    · subst ec; rw [ip_inc_s, ip_msk_s hb, ip_msk_s hb, ip_inc_s]
    · rw [ip_inc_n ec]
      unfold ip_msk
      rw [ip_inc_n ec]
  · have h5 : ip_part n w rk (k + 1) s = ip_part n w rk k s := by
      by_cases hlt : s < r
      · have h6 := ip_pre_mono (n := n) (w := w) (rk := rk) (a := s + 1) (b := r) (by omega)
        rw [ip_pre_s] at h6
        unfold ip_part
        omega
      · have h6 := ip_pre_mono (n := n) (w := w) (rk := rk) (a := r + 1) (b := s) (by omega)
        rw [ip_pre_s] at h6
        unfold ip_part
        omega
    rw [h5]
    refine ip_RG_congr (F s hs) (fun c hc => ?_)
    by_cases ec : c = b
    · subst ec; rw [ip_msk_n (by omega), ip_msk_n (by omega)]
    · unfold ip_msk
      rw [ip_inc_n ec]
theorem ip_Fin_0 {n : Nat} {w rk ru g : Nat → Nat} (hz : ∀ c, c < n → g c = 0) : ip_Fin n w rk ru 0 g := by
  intro r h4
  have h1 : ip_part n w rk 0 r = 0 := by unfold ip_part; omega
  rw [h1]
  refine ip_RG_0 (fun c hc => ?_)
  unfold ip_msk
  rw [hz c hc]
  split <;> rfl
theorem ip_Open_ex {n : Nat} {w rk g : Nat → Nat} (hr : ∀ c, c < n → rk c < 4) (h : ¬ ∀ c, c < n → ¬ g c < w c) : ∃ r, ip_Open n w rk g r := by
  have h1 : ∃ r, ∃ c, c < n ∧ rk c = r ∧ g c < w c := by
    by_cases e : ∃ r, ∃ c, c < n ∧ rk c = r ∧ g c < w c
    · exact e
    · exact absurd (fun c hc hl => e ⟨rk c, c, hc, rfl, hl⟩) h
  obtain ⟨r, ⟨c, hc, er, hl⟩, hm⟩ := pk_least (fun r => ∃ c, c < n ∧ rk c = r ∧ g c < w c) h1
  refine ⟨r, by have := hr c hc; omega, ⟨c, hc, er, hl⟩, fun d hd hdl => ?_⟩
  by_cases e : r ≤ rk d
  · exact e
  · exact absurd ⟨d, hd, rfl, hdl⟩ (hm (rk d) (by omega))
theorem ip_Fin_next {n k : Nat} {w rk ru g : Nat → Nat} (hr : ∀ c, c < n → rk c < 4) (hu : ∀ r, r < 4 → ru r ≤ 3) (F : ip_Fin n w rk ru k g) : ∃ g', ip_Fin n w rk ru (k + 1) g' ∧ ∀ c, g c ≤ g' c := by
  by_cases h : ∀ c, c < n → ¬ g c < w c
  · exact ⟨g, (ip_Fin_full hr F h).2, fun c => Nat.le_refl _⟩
  · obtain ⟨r, O⟩ := ip_Open_ex hr h
    have h4 := O.1
    have h1 := ip_Fin_open hr F O
    have hs := ip_Fin_sum F h4
    have hh : decide (ru r = 3 ∧ 2 * ip_sum (ip_msk rk r g) n < ip_tot n w rk r) = true ↔ ru r = 3 ∧ 2 * ip_sum (ip_msk rk r g) n < ip_tot n w rk r := decide_eq_true_iff
    generalize decide (ru r = 3 ∧ 2 * ip_sum (ip_msk rk r g) n < ip_tot n w rk r) = hf at hh
    obtain ⟨c, hc, hcd⟩ := ip_cand_ex (hf := hf) (F r h4) (by unfold ip_part; unfold ip_tot at h1 ⊢; omega) (fun z => by have := (hh.mp z).2; rw [hs] at this; exact this)
    rcases ip_Bb_ex (ip_O_cmp (ru r) hf (ip_msk rk r w)) (cand := ip_cand hf (ip_msk rk r w) (ip_msk rk r g)) (h := ip_msk rk r g) n with B | ⟨b, B⟩
    · exact absurd hcd (B c hc)
    · refine ⟨ip_inc g b, ip_Fin_step hr hu F O hh B, fun c => ?_⟩
      unfold ip_inc
      split <;> omega
theorem ip_Fin_ex {n : Nat} {w rk ru : Nat → Nat} (hr : ∀ c, c < n → rk c < 4) (hu : ∀ r, r < 4 → ru r ≤ 3) : ∀ k, ∃ g, ip_Fin n w rk ru k g := by
  intro k
  induction k with
  | zero => exact ⟨fun _ => 0, ip_Fin_0 (fun _ _ => rfl)⟩
  | succ k ih =>
    obtain ⟨g, F⟩ := ih
    obtain ⟨g', F', _⟩ := ip_Fin_next hr hu F
    exact ⟨g', F'⟩
/-- what everybody has after k units -/
noncomputable def ip_G (n : Nat) (w rk ru : Nat → Nat) (k : Nat) : Nat → Nat := Classical.epsilon (fun g => ip_Fin n w rk ru k g)
theorem ip_G_Fin {n : Nat} {w rk ru : Nat → Nat} (hr : ∀ c, c < n → rk c < 4) (hu : ∀ r, r < 4 → ru r ≤ 3) (k : Nat) : ip_Fin n w rk ru k (ip_G n w rk ru k) := Classical.epsilon_spec (ip_Fin_ex hr hu k)
theorem ip_G_eq {n k : Nat} {w rk ru g : Nat → Nat} (hr : ∀ c, c < n → rk c < 4) (hu : ∀ r, r < 4 → ru r ≤ 3) (F : ip_Fin n w rk ru k g) : ∀ c, c < n → g c = ip_G n w rk ru k c := ip_Fin_uniq hr F (ip_G_Fin hr hu k)
theorem ip_G_0 {n : Nat} {w rk ru : Nat → Nat} (hr : ∀ c, c < n → rk c < 4) (hu : ∀ r, r < 4 → ru r ≤ 3) : ∀ c, c < n → ip_G n w rk ru 0 c = 0 := fun c hc => (ip_G_eq hr hu (ip_Fin_0 (g := fun _ => 0) (fun _ _ => rfl)) c hc).symm
theorem ip_G_le {n : Nat} {w rk ru : Nat → Nat} (hr : ∀ c, c < n → rk c < 4) (hu : ∀ r, r < 4 → ru r ≤ 3) (k : Nat) : ∀ c, c < n → ip_G n w rk ru k c ≤ w c := ip_Fin_le hr (ip_G_Fin hr hu k)
theorem ip_G_mono {n : Nat} {w rk ru : Nat → Nat} (hr : ∀ c, c < n → rk c < 4) (hu : ∀ r, r < 4 → ru r ≤ 3) {a b : Nat} (h : a ≤ b) : ∀ c, c < n → ip_G n w rk ru a c ≤ ip_G n w rk ru b c := by
  intro c hc
  induction b with
  | zero => have e : a = 0 := by omega
            subst e; exact Nat.le_refl _
  | succ b ih =>
    by_cases e : a = b + 1
    · subst e; exact Nat.le_refl _
    · have h1 := ih (by omega)
      obtain ⟨g', F', hg⟩ := ip_Fin_next hr hu (ip_G_Fin hr hu b)
      rw [← ip_G_eq hr hu F' c hc]
      exact Nat.le_trans h1 (hg c)
theorem ip_G_top {n : Nat} {w rk ru : Nat → Nat} (hr : ∀ c, c < n → rk c < 4) (hu : ∀ r, r < 4 → ru r ≤ 3) {k : Nat} (h : ip_pre n w rk 4 ≤ k) : ∀ c, c < n → ip_G n w rk ru k c = w c := by
  intro c hc
  have F := ip_G_Fin (w := w) hr hu k
  have h4 := hr c hc
  have h1 := ip_Fin_sum F h4
  have h2 := ip_pre_mono (n := n) (w := w) (rk := rk) (a := rk c + 1) (b := 4) (by omega)
  rw [ip_pre_s] at h2
  have h3 : ip_part n w rk k (rk c) = ip_tot n w rk (rk c) := by unfold ip_part; omega
  have h5 := ip_sum_full (ip_RG_le (F (rk c) h4)) (h1.trans h3) c hc
  rw [ip_msk_s rfl, ip_msk_s rfl] at h5
  exact h5
/-- the reference's step -/
theorem ip_G_step {n k r b : Nat} {hf : Bool} {w rk ru g : Nat → Nat} (hr : ∀ c, c < n → rk c < 4) (hu : ∀ r, r < 4 → ru r ≤ 3) (hg : ∀ c, c < n → g c = ip_G n w rk ru k c) (O : ip_Open n w rk g r)
    (hh : hf = true ↔ ru r = 3 ∧ 2 * ip_sum (ip_msk rk r g) n < ip_tot n w rk r)
    (B : ip_Bb (ip_cmp (ru r) hf (ip_msk rk r w)) (ip_cand hf (ip_msk rk r w) (ip_msk rk r g)) (ip_msk rk r g) n b) : k < ip_pre n w rk 4 ∧ ∀ c, c < n → ip_inc g b c = ip_G n w rk ru (k + 1) c := by
  have F : ip_Fin n w rk ru k g := ip_Fin_congr (ip_G_Fin hr hu k) (fun c hc => (hg c hc).symm)
  refine ⟨?_, ip_G_eq hr hu (ip_Fin_step hr hu F O hh B)⟩
  have h1 := ip_Fin_open hr F O
  have h4 := O.1
  have h2 := ip_pre_mono (n := n) (w := w) (rk := rk) (a := r + 1) (b := 4) (by omega)
  rw [ip_pre_s] at h2
  omega
theorem ip_G_stay {n k : Nat} {w rk ru g : Nat → Nat} (hr : ∀ c, c < n → rk c < 4) (hu : ∀ r, r < 4 → ru r ≤ 3) (hg : ∀ c, c < n → g c = ip_G n w rk ru k c) (hf : ∀ c, c < n → ¬ g c < w c) : ip_pre n w rk 4 ≤ k ∧ ∀ c, c < n → g c = ip_G n w rk ru (k + 1) c := by
  have F : ip_Fin n w rk ru k g := ip_Fin_congr (ip_G_Fin hr hu k) (fun c hc => (hg c hc).symm)
  have h1 := ip_Fin_full hr F hf
  exact ⟨h1.1, ip_G_eq hr hu h1.2⟩
theorem ip_G_cand {n k r : Nat} {hf : Bool} {w rk ru g : Nat → Nat} (hr : ∀ c, c < n → rk c < 4) (hu : ∀ r, r < 4 → ru r ≤ 3) (hg : ∀ c, c < n → g c = ip_G n w rk ru k c) (O : ip_Open n w rk g r)
    (hh : hf = true ↔ ru r = 3 ∧ 2 * ip_sum (ip_msk rk r g) n < ip_tot n w rk r) : ∃ c, c < n ∧ ip_cand hf (ip_msk rk r w) (ip_msk rk r g) c := by
  have F : ip_Fin n w rk ru k g := ip_Fin_congr (ip_G_Fin hr hu k) (fun c hc => (hg c hc).symm)
  have h1 := ip_Fin_open hr F O
  have hs := ip_Fin_sum F O.1
  exact ip_cand_ex (F r O.1) (by unfold ip_part; unfold ip_tot at h1 ⊢; omega) (fun z => by have := (hh.mp z).2; rw [hs] at this; exact this)
end
section
/-! the component's small loops -/
/-- the array a holds f below n -/
def ip_A (n : Nat) (a : Nat → Int32) (f : Nat → Nat) : Prop := ∀ j, j < n → a j = nI (f j)
/-- the creditors: claims and ranks -/
def ip_C (n : Nat) (w rk : Nat → Nat) (aw ar : Nat → Int32) : Prop :=
  n ≤ 8 ∧ ip_A n aw w ∧ (∀ j, j < n → w j ≤ 150) ∧ ip_A n ar rk ∧ ∀ j, j < n → rk j < 4
theorem ip_rd {n i : Nat} {a : Nat → Int32} {f : Nat → Nat} (h : ip_A n a f) (hi : i < n) (hn : n ≤ 8) : a (nI i).toNatClampNeg = nI (f i) := by
  rw [nI_clamp (by omega)]; exact h i hi
theorem ip_up {a : Nat → Int32} {i : Nat} {x y : Int32} (hi : i < 8) (e : x = y) : upd a (nI i).toNatClampNeg x = upd a i y := by
  rw [nI_clamp (by omega), e]
theorem ip_A_upd {n i : Nat} {a : Nat → Int32} {f : Nat → Nat} {v : Nat} (h : ip_A n a f) : ip_A n (upd a i (nI v)) (fun j => if j = i then v else f j) := by
  intro j hj
  show upd a i (nI v) j = nI (if j = i then v else f j)
  by_cases e : j = i
  · subst e; rw [pk_us, if_pos rfl]
  · rw [pk_un e, if_neg e]; exact h j hj
theorem ip_A_congr {n : Nat} {a : Nat → Int32} {f f' : Nat → Nat} (h : ip_A n a f) (e : ∀ j, j < n → f j = f' j) : ip_A n a f' := fun j hj => by rw [h j hj, e j hj]
theorem ip_in8 {i : Nat} (h : i < 8) : vp_in (nI i) 8 := vp_in_nI h (by omega)
theorem ip_sum_s (f : Nat → Nat) (i : Nat) : ip_sum f (i + 1) = ip_sum f i + f i := rfl
theorem ip_big (B : Nat) {f : Nat → Nat} {n i : Nat} (hn : n ≤ 8) (hi : i ≤ n) (h : ∀ j, j < n → f j ≤ B) : ip_sum f i ≤ 8 * B := by
  have h1 := ip_sum_ub B i (fun j hj => h j (by omega))
  have h2 : i * B ≤ 8 * B := Nat.mul_le_mul_right _ (by omega)
  omega
section
variable {n : Nat} {w rk ru g l : Nat → Nat} {fp fo : Int32} {aw ar au ag al ae : Nat → Int32}
theorem ip_msk_150 {r : Nat} {f : Nat → Nat} (h : ∀ j, j < n → f j ≤ 150) : ∀ j, j < n → ip_msk rk r f j ≤ 150 := by
  intro j hj
  have := h j hj
  unfold ip_msk
  split <;> omega
theorem ip_x_total_l (C : ip_C n w rk aw ar) {r : Nat} (h4 : r < 4) {post : Int32 → Prop} (hp : post (nI (ip_tot n w rk r))) : ∀ d i, i + d = n → wX_total_4 post (nI r) (nI n) fp fo aw ar au ag al ae (d + 1) (nI (ip_sum (ip_msk rk r w) i)) (nI i) := by
  obtain ⟨hn, hw, hw2, hr, hr2⟩ := C
  intro d
  induction d with
  | zero =>
    intro i hi
    have e : i = n := by omega
    subst e
    exact br_t (nI_le (Nat.le_refl _) (by omega)) hp
  | succ d ih =>
    intro i hi
    have hi' : i < n := by omega
    have hin : vp_in (nI i) 8 := ip_in8 (by omega)
    have hb := hr2 i hi'
    refine br_f (nI_ge hi' (by omega)) ⟨hin, ?_⟩
    refine pk_eq (rk i) r (fun e => ⟨hin, ?_⟩) (fun e => ?_) (ip_rd hr hi' hn) rfl
    · refine nm_r (e' := nI (ip_sum (ip_msk rk r w) (i + 1))) ?_ (nm_r (nI_1 i) (ih (i + 1) (by omega)))
      rw [ip_rd hw hi' hn, nI_add, ip_sum_s, ip_msk_s e]
    · refine nm_r (e' := nI (ip_sum (ip_msk rk r w) (i + 1))) ?_ (nm_r (nI_1 i) (ih (i + 1) (by omega)))
      rw [Int32.add_zero, ip_sum_s, ip_msk_n e]; rfl
theorem ip_x_total (C : ip_C n w rk aw ar) {r : Nat} (h4 : r < 4) {post : Int32 → Prop} (hp : post (nI (ip_tot n w rk r))) : wpX_total post (nI n, fp, fo, aw, ar, au, ag, al, ae) (nI r) :=
  ⟨n + 1, ip_x_total_l C h4 hp n 0 (by omega)⟩
theorem ip_x_take_33 (C : ip_C n w rk aw ar) (hg : ip_A n ag g) {r i : Nat} {mo : Nat → Nat} {x2 z0 : Int32} {post : SX → Prop} {J : Int32 → (Nat → Int32) → (Nat → Int32) → (Nat → Int32) → (Nat → Int32) → (Nat → Int32) → (Nat → Int32) → Prop} (h4 : r < 4) (hi : i < n) (hz : z0 = nI (mo i)) (hm : rk i = r → g i ≤ mo i)
    (hJ : J (nI (i + 1)) aw ar au ag (upd al i (nI (ip_msk rk r (ip_sb mo g) i))) ae) : wX_takeLimits_33 post J (nI r) x2 (nI i) z0 (nI n) fp fo aw ar au ag al ae := by
  obtain ⟨hn, hw, hw2, hr, hr2⟩ := C
  have hin : vp_in (nI i) 8 := ip_in8 (by omega)
  have hb := hr2 i hi
  unfold wX_takeLimits_33
  refine ⟨hin, pk_eq (rk i) r (fun e => ⟨hin, hin, ?_⟩) (fun e => ⟨hin, ?_⟩) (ip_rd hr hi hn) rfl⟩
  · refine nm_r (ip_up (y := nI (ip_msk rk r (ip_sb mo g) i)) (by omega) ?_) (nm_r (nI_1 i) hJ)
    rw [hz, ip_rd hg hi hn, pk_sub (hm e), ip_msk_s e]; rfl
  · refine nm_r (ip_up (y := nI (ip_msk rk r (ip_sb mo g) i)) (by omega) ?_) (nm_r (nI_1 i) hJ)
    rw [ip_msk_n e]; rfl
theorem ip_x_take_l (C : ip_C n w rk aw ar) (hg : ip_A n ag g) {r : Nat} {mo : Nat → Nat} {x2 : Int32} {post : SX → Prop} (h4 : r < 4)
    (hx : (x2 = 0 ∧ mo = w) ∨ (x2 = 1 ∧ mo = ip_hf w)) (hm : ∀ i, i < n → rk i = r → g i ≤ mo i)
    (hp : ∀ al', ip_A n al' (ip_msk rk r (ip_sb mo g)) → post (nI n, fp, fo, aw, ar, au, ag, al', ae)) : ∀ d i al, i + d = n → ip_A i al (ip_msk rk r (ip_sb mo g)) → wX_takeLimits_2 post (nI r) x2 (nI n) fp fo (d + 1) (nI i) aw ar au ag al ae := by
  have hn := C.1
  intro d
  induction d with
  | zero =>
    intro i al hi hA
    have e : i = n := by omega
    subst e
    exact br_t (nI_le (Nat.le_refl _) (by omega)) (hp al hA)
  | succ d ih =>
    intro i al hi hA
    have hi' : i < n := by omega
    have hin : vp_in (nI i) 8 := ip_in8 (by omega)
    have hwi := C.2.2.1 i hi'
    have K : wX_takeLimits_2 post (nI r) x2 (nI n) fp fo (d + 1) (nI (i + 1)) aw ar au ag (upd al i (nI (ip_msk rk r (ip_sb mo g) i))) ae := by
      refine ih (i + 1) _ (by omega) (fun j hj => ?_)
      by_cases e : j = i
      · subst e; rw [pk_us]
      · rw [pk_un e]; exact hA j (by omega)
    refine br_f (nI_ge hi' (by omega)) ?_
    rcases hx with ⟨e1, e2⟩ | ⟨e1, e2⟩
    · subst e1
      subst e2
      exact br_t rfl ⟨hin, ip_x_take_33 C hg h4 hi' (ip_rd C.2.1 hi' hn) (hm i hi') K⟩
    · subst e1
      refine br_f (by decide) ⟨hin, ip_x_take_33 (mo := mo) C hg h4 hi' ?_ (hm i hi') K⟩
      rw [ip_rd C.2.1 hi' hn, nI_1, pk_shrN (by omega) _ 1 (by decide), e2]
      rfl
theorem ip_x_take (C : ip_C n w rk aw ar) (hg : ip_A n ag g) {r : Nat} {mo : Nat → Nat} {x2 : Int32} {post : SX → Prop} (h4 : r < 4)
    (hx : (x2 = 0 ∧ mo = w) ∨ (x2 = 1 ∧ mo = ip_hf w)) (hm : ∀ i, i < n → rk i = r → g i ≤ mo i)
    (hp : ∀ al', ip_A n al' (ip_msk rk r (ip_sb mo g)) → post (nI n, fp, fo, aw, ar, au, ag, al', ae)) : wpX_takeLimits post (nI n, fp, fo, aw, ar, au, ag, al, ae) (nI r) x2 :=
  ⟨n + 1, ip_x_take_l C hg h4 hx hm hp n 0 al (by omega) (fun j hj => by omega)⟩
theorem ip_x_awarded_l (hn : n ≤ 8) (hl : ip_A n al l) (hl2 : ∀ j, j < n → l j ≤ 150) {L : Nat} (hL : L ≤ 150) {post : Int32 → Prop} (hp : post (nI (ip_sum (ip_cut L l) n))) : ∀ d i, i + d = n → wX_awarded_4 post (nI L) (nI n) fp fo aw ar au ag al ae (d + 1) (nI (ip_sum (ip_cut L l) i)) (nI i) := by
  intro d
  induction d with
  | zero =>
    intro i hi
    have e : i = n := by omega
    subst e
    exact br_t (nI_le (Nat.le_refl _) (by omega)) hp
  | succ d ih =>
    intro i hi
    have hi' : i < n := by omega
    have hin : vp_in (nI i) 8 := ip_in8 (by omega)
    have hb := hl2 i hi'
    refine br_f (nI_ge hi' (by omega)) ⟨hin, ?_⟩
    refine pk_le L (l i) (fun e => ?_) (fun e => ⟨hin, ?_⟩) rfl (ip_rd hl hi' hn)
    · refine nm_r (e' := nI (ip_sum (ip_cut L l) (i + 1))) ?_ (nm_r (nI_1 i) (ih (i + 1) (by omega)))
      rw [nI_add, ip_sum_s, show ip_cut L l i = L from Nat.min_eq_right e]
    · refine nm_r (e' := nI (ip_sum (ip_cut L l) (i + 1))) ?_ (nm_r (nI_1 i) (ih (i + 1) (by omega)))
      rw [ip_rd hl hi' hn, nI_add, ip_sum_s, show ip_cut L l i = l i from Nat.min_eq_left (by omega)]
theorem ip_x_awarded (hn : n ≤ 8) (hl : ip_A n al l) (hl2 : ∀ j, j < n → l j ≤ 150) {L : Nat} (hL : L ≤ 150) {post : Int32 → Prop} (hp : post (nI (ip_sum (ip_cut L l) n))) : wpX_awarded post (nI n, fp, fo, aw, ar, au, ag, al, ae) (nI L) :=
  ⟨n + 1, ip_x_awarded_l hn hl hl2 hL hp n 0 (by omega)⟩
theorem ip_x_lost_l (hn : n ≤ 8) (hl : ip_A n al l) (hl2 : ∀ j, j < n → l j ≤ 150) {L : Nat} (hL : L ≤ 150) {post : Int32 → Prop} (hp : post (nI (ip_sum (ip_ov L l) n))) : ∀ d i, i + d = n → wX_lost_4 post (nI L) (nI n) fp fo aw ar au ag al ae (d + 1) (nI (ip_sum (ip_ov L l) i)) (nI i) := by
  intro d
  induction d with
  | zero =>
    intro i hi
    have e : i = n := by omega
    subst e
    exact br_t (nI_le (Nat.le_refl _) (by omega)) hp
  | succ d ih =>
    intro i hi
    have hi' : i < n := by omega
    have hin : vp_in (nI i) 8 := ip_in8 (by omega)
    have hb := hl2 i hi'
    refine br_f (nI_ge hi' (by omega)) ⟨hin, ?_⟩
    refine pk_le (l i) L (fun e => ?_) (fun e => ⟨hin, ?_⟩) (ip_rd hl hi' hn) rfl
    · refine nm_r (e' := nI (ip_sum (ip_ov L l) (i + 1))) ?_ (nm_r (nI_1 i) (ih (i + 1) (by omega)))
      rw [Int32.add_zero, ip_sum_s, show ip_ov L l i = 0 from Nat.sub_eq_zero_of_le e]; rfl
    · refine nm_r (e' := nI (ip_sum (ip_ov L l) (i + 1))) ?_ (nm_r (nI_1 i) (ih (i + 1) (by omega)))
      rw [ip_rd hl hi' hn, pk_sub (by omega), nI_add, ip_sum_s]; rfl
theorem ip_x_lost (hn : n ≤ 8) (hl : ip_A n al l) (hl2 : ∀ j, j < n → l j ≤ 150) {L : Nat} (hL : L ≤ 150) {post : Int32 → Prop} (hp : post (nI (ip_sum (ip_ov L l) n))) : wpX_lost post (nI n, fp, fo, aw, ar, au, ag, al, ae) (nI L) :=
  ⟨n + 1, ip_x_lost_l hn hl hl2 hL hp n 0 (by omega)⟩
end
end
section
/-! the component's award and lose: printed by gen07.py -/
section
variable {n : Nat} {w rk ru g l : Nat → Nat} {fp fo : Int32} {aw ar au ag al ae : Nat → Int32}
theorem ip_x_award_131 {post : SX → Prop} {J : Int32 → Int32 → (Nat → Int32) → (Nat → Int32) → (Nat → Int32) → (Nat → Int32) → (Nat → Int32) → (Nat → Int32) → Prop} {x2 fc : Int32} {x i bt c0 gi : Nat} (hi : i < 8) (hbt : bt = 0 ∨ bt = 1) (hx : bt ≤ x)
    (hJ : J (nI (x - bt)) (nI (i + 1)) aw ar au (upd ag i (nI (gi + (c0 + bt)))) al ae) : wX_award_131 post J x2 (nI x) (nI i) (nI bt) (nI c0) (nI gi) (nI i) fc fp fo aw ar au ag al ae := by
  unfold wX_award_131 wX_award_141
  rcases hbt with e | e
  · subst e
    refine br_t rfl ⟨ip_in8 hi, nm_r (ip_up (y := nI (gi + (c0 + 0))) hi ?_) (br_t rfl (nm_r (e' := nI (x - 0)) ?_ (nm_r (nI_1 i) hJ)))⟩
    · rw [Int32.add_zero, nI_add]; rfl
    · rw [Int32.sub_zero]; rfl
  · subst e
    refine br_f (by decide) ⟨ip_in8 hi, nm_r (ip_up (y := nI (gi + (c0 + 1))) hi ?_) (br_f (by decide) (nm_r (e' := nI (x - 1)) ?_ (nm_r (nI_1 i) hJ)))⟩
    · rw [nI_1, nI_add]
    · exact pk_sub (b := 1) hx
theorem ip_x_lose_145 {post : SX → Prop} {J : Int32 → Int32 → (Nat → Int32) → (Nat → Int32) → (Nat → Int32) → (Nat → Int32) → (Nat → Int32) → (Nat → Int32) → Prop} {x2 fc : Int32} {x i bt c0 gi : Nat} (hi : i < 8) (hbt : bt = 0 ∨ bt = 1) (hx : bt ≤ x)
    (hJ : J (nI (x - bt)) (nI (i + 1)) aw ar au (upd ag i (nI (gi + (c0 + bt)))) al ae) : wX_lose_145 post J x2 (nI x) (nI i) (nI bt) (nI c0) (nI gi) (nI i) fc fp fo aw ar au ag al ae := by
  unfold wX_lose_145 wX_lose_155
  rcases hbt with e | e
  · subst e
    refine br_t rfl ⟨ip_in8 hi, nm_r (ip_up (y := nI (gi + (c0 + 0))) hi ?_) (br_t rfl (nm_r (e' := nI (x - 0)) ?_ (nm_r (nI_1 i) hJ)))⟩
    · rw [Int32.add_zero, nI_add]; rfl
    · rw [Int32.sub_zero]; rfl
  · subst e
    refine br_f (by decide) ⟨ip_in8 hi, nm_r (ip_up (y := nI (gi + (c0 + 1))) hi ?_) (br_f (by decide) (nm_r (e' := nI (x - 1)) ?_ (nm_r (nI_1 i) hJ)))⟩
    · rw [nI_1, nI_add]
    · exact pk_sub (b := 1) hx
theorem ip_x_award_99 (hn : n ≤ 8) (hl : ip_A n al l) (hl2 : ∀ j, j < n → l j ≤ 150) {post : SX → Prop} {J : Int32 → Int32 → (Nat → Int32) → (Nat → Int32) → (Nat → Int32) → (Nat → Int32) → (Nat → Int32) → (Nat → Int32) → Prop} {L x i bt gi : Nat} {fc : Int32} (hL : L ≤ 150) (hi : i < n) (hgi : ag (nI i).toNatClampNeg = nI gi) (hbt : bt = 0 ∨ bt = 1) (hx : bt ≤ x)
    (hJ : J (nI (x - bt)) (nI (i + 1)) aw ar au (upd ag i (nI (gi + (ip_cut L l i + bt)))) al ae) : wX_award_99 post J (nI L) (nI x) (nI i) (nI bt) fc fp fo aw ar au ag al ae := by
  have hin : vp_in (nI i) 8 := ip_in8 (by omega)
  have hb := hl2 i hi
  unfold wX_award_99
  rw [hgi]
  refine ⟨hin, hin, pk_le L (l i) (fun e => ?_) (fun e => ⟨hin, ?_⟩) rfl (ip_rd hl hi hn)⟩
  · rw [show ip_cut L l i = L from Nat.min_eq_right e] at hJ
    exact ip_x_award_131 (by omega) hbt hx hJ
  · rw [show ip_cut L l i = l i from Nat.min_eq_left (by omega)] at hJ
    rw [ip_rd hl hi hn]
    exact ip_x_award_131 (by omega) hbt hx hJ
theorem ip_x_lose_111 (hn : n ≤ 8) (hl : ip_A n al l) (hl2 : ∀ j, j < n → l j ≤ 150) {post : SX → Prop} {J : Int32 → Int32 → (Nat → Int32) → (Nat → Int32) → (Nat → Int32) → (Nat → Int32) → (Nat → Int32) → (Nat → Int32) → Prop} {L x i bt gi : Nat} {fc : Int32} (hL : L ≤ 150) (hi : i < n) (hgi : ag (nI i).toNatClampNeg = nI gi) (hbt : bt = 0 ∨ bt = 1) (hx : bt ≤ x)
    (hJ : J (nI (x - bt)) (nI (i + 1)) aw ar au (upd ag i (nI (gi + (ip_ov L l i + bt)))) al ae) : wX_lose_111 post J (nI L) (nI x) (nI i) (nI bt) fc fp fo aw ar au ag al ae := by
  have hin : vp_in (nI i) 8 := ip_in8 (by omega)
  have hb := hl2 i hi
  unfold wX_lose_111
  rw [hgi]
  refine ⟨hin, hin, pk_le (l i) L (fun e => ?_) (fun e => ⟨hin, ?_⟩) (ip_rd hl hi hn) rfl⟩
  · rw [show ip_ov L l i = 0 from Nat.sub_eq_zero_of_le e] at hJ
    exact ip_x_lose_145 (by omega) hbt hx hJ
  · rw [ip_rd hl hi hn, pk_sub (by omega)]
    exact ip_x_lose_145 (by omega) hbt hx hJ
theorem ip_x_award_69 (hn : n ≤ 8) (hl : ip_A n al l) (hl2 : ∀ j, j < n → l j ≤ 150) {post : SX → Prop} {L R : Nat} (hL : L ≤ 150) (hR : R ≤ 1501)
    (hp : ∀ ag', ip_A n ag' (fun j => g j + (ip_cut L l j + ip_bit (ip_ab L l) R j)) → post (nI n, fp, fo, aw, ar, au, ag', al, ae)) : ∀ d i ag, i + d = n →
    ip_A n ag (fun j => if j < i then g j + (ip_cut L l j + ip_bit (ip_ab L l) R j) else g j) → wX_award_69 post (nI L) (nI n) fp fo (d + 1) (nI (R - ip_sum (ip_ab L l) i)) (nI i) aw ar au ag al ae := by
  intro d
  induction d with
  | zero =>
    intro i ag hi hA
    have e : i = n := by omega
    subst e
    refine br_t (nI_le (Nat.le_refl _) (by omega)) (hp ag (ip_A_congr hA (fun j hj => ?_)))
    exact if_pos hj
  | succ d ih =>
    intro i ag hi hA
    have hi' : i < n := by omega
    have hin : vp_in (nI i) 8 := ip_in8 (by omega)
    have hb := hl2 i hi'
    have hgi : ag (nI i).toNatClampNeg = nI (g i) := by
      rw [ip_rd hA hi' hn]; exact congrArg nI (if_neg (Nat.lt_irrefl i))
    have K : ∀ bt, ip_bit (ip_ab L l) R i = bt → R - ip_sum (ip_ab L l) i - bt = R - (ip_sum (ip_ab L l) i + ip_ab L l i) → wX_award_69 post (nI L) (nI n) fp fo (d + 1) (nI (R - ip_sum (ip_ab L l) i - bt)) (nI (i + 1)) aw ar au (upd ag i (nI (g i + (ip_cut L l i + bt)))) al ae := by
      intro bt e1 e2
      rw [e2]
      refine ih (i + 1) _ (by omega) (ip_A_congr (ip_A_upd hA) (fun j hj => ?_))
      by_cases ej : j = i
      · subst ej
        rw [if_pos rfl, if_pos (Nat.lt_succ_self j), e1]
      · rw [if_neg ej]
        by_cases ej2 : j < i
        · rw [if_pos ej2, if_pos (show j < i + 1 by omega)]
        · rw [if_neg ej2, if_neg (show ¬ j < i + 1 by omega)]
    refine br_f (nI_ge hi' (by omega)) ⟨hin, ?_⟩
    refine pk_le (l i) L (fun e => ?_) (fun e => ?_) (ip_rd hl hi' hn) rfl
    · have e0 : ip_ab L l i = 0 := if_neg (by omega)
      exact ip_x_award_99 (bt := 0) hn hl hl2 hL hi' hgi (Or.inl rfl) (Nat.zero_le _) (K 0 (by rw [ip_bit_0 (by omega)]) (by rw [e0]; omega))
    · have e0 : ip_ab L l i = 1 := if_pos e
      refine pk_le (R - ip_sum (ip_ab L l) i) 0 (fun e2 => ?_) (fun e2 => ?_) rfl rfl
      · exact ip_x_award_99 (bt := 0) hn hl hl2 hL hi' hgi (Or.inl rfl) (Nat.zero_le _) (K 0 (by rw [ip_bit_0 (by omega)]) (by rw [e0]; omega))
      · exact ip_x_award_99 (bt := 1) hn hl hl2 hL hi' hgi (Or.inr rfl) e2 (K 1 (by rw [ip_bit_1 (by omega) (by omega)]) (by rw [e0]; omega))
theorem ip_x_lose_67 (hn : n ≤ 8) (hl : ip_A n al l) (hl2 : ∀ j, j < n → l j ≤ 150) {post : SX → Prop} {L R : Nat} (hL : L ≤ 150) (hR : R ≤ 1501)
    (hp : ∀ ag', ip_A n ag' (fun j => g j + (ip_ov L l j + ip_bit (ip_at L l) R j)) → post (nI n, fp, fo, aw, ar, au, ag', al, ae)) : ∀ d i ag, i + d = n →
    ip_A n ag (fun j => if j < i then g j + (ip_ov L l j + ip_bit (ip_at L l) R j) else g j) → wX_lose_67 post (nI L) (nI n) fp fo (d + 1) (nI (R - ip_sum (ip_at L l) i)) (nI i) aw ar au ag al ae := by
  intro d
  induction d with
  | zero =>
    intro i ag hi hA
    have e : i = n := by omega
    subst e
    refine br_t (nI_le (Nat.le_refl _) (by omega)) (hp ag (ip_A_congr hA (fun j hj => ?_)))
    exact if_pos hj
  | succ d ih =>
    intro i ag hi hA
    have hi' : i < n := by omega
    have hin : vp_in (nI i) 8 := ip_in8 (by omega)
    have hb := hl2 i hi'
    have hgi : ag (nI i).toNatClampNeg = nI (g i) := by
      rw [ip_rd hA hi' hn]; exact congrArg nI (if_neg (Nat.lt_irrefl i))
    have K : ∀ bt, ip_bit (ip_at L l) R i = bt → R - ip_sum (ip_at L l) i - bt = R - (ip_sum (ip_at L l) i + ip_at L l i) → wX_lose_67 post (nI L) (nI n) fp fo (d + 1) (nI (R - ip_sum (ip_at L l) i - bt)) (nI (i + 1)) aw ar au (upd ag i (nI (g i + (ip_ov L l i + bt)))) al ae := by
      intro bt e1 e2
      rw [e2]
      refine ih (i + 1) _ (by omega) (ip_A_congr (ip_A_upd hA) (fun j hj => ?_))
      by_cases ej : j = i
      · subst ej
        rw [if_pos rfl, if_pos (Nat.lt_succ_self j), e1]
      · rw [if_neg ej]
        by_cases ej2 : j < i
        · rw [if_pos ej2, if_pos (show j < i + 1 by omega)]
        · rw [if_neg ej2, if_neg (show ¬ j < i + 1 by omega)]
    refine br_f (nI_ge hi' (by omega)) ⟨hin, ?_⟩
    refine pk_lt (l i) L (fun e => ?_) (fun e => ⟨hin, ?_⟩) (ip_rd hl hi' hn) rfl
    · have e0 : ip_at L l i = 0 := if_neg (by omega)
      exact ip_x_lose_111 (bt := 0) hn hl hl2 hL hi' hgi (Or.inl rfl) (Nat.zero_le _) (K 0 (by rw [ip_bit_0 (by omega)]) (by rw [e0]; omega))
    · refine pk_le (l i) 0 (fun e3 => ?_) (fun e3 => ?_) (ip_rd hl hi' hn) rfl
      · have e0 : ip_at L l i = 0 := if_neg (by omega)
        exact ip_x_lose_111 (bt := 0) hn hl hl2 hL hi' hgi (Or.inl rfl) (Nat.zero_le _) (K 0 (by rw [ip_bit_0 (by omega)]) (by rw [e0]; omega))
      · refine pk_le L 0 (fun e4 => ?_) (fun e4 => ?_) rfl rfl
        · have e0 : ip_at L l i = 0 := if_neg (by omega)
          exact ip_x_lose_111 (bt := 0) hn hl hl2 hL hi' hgi (Or.inl rfl) (Nat.zero_le _) (K 0 (by rw [ip_bit_0 (by omega)]) (by rw [e0]; omega))
        · have e0 : ip_at L l i = 1 := if_pos ⟨e, e3, e4⟩
          refine pk_le (R - ip_sum (ip_at L l) i) 0 (fun e2 => ?_) (fun e2 => ?_) rfl rfl
          · exact ip_x_lose_111 (bt := 0) hn hl hl2 hL hi' hgi (Or.inl rfl) (Nat.zero_le _) (K 0 (by rw [ip_bit_0 (by omega)]) (by rw [e0]; omega))
          · exact ip_x_lose_111 (bt := 1) hn hl hl2 hL hi' hgi (Or.inr rfl) e2 (K 1 (by rw [ip_bit_1 (by omega) (by omega)]) (by rw [e0]; omega))
theorem ip_x_award_57 (hn : n ≤ 8) (hl : ip_A n al l) (hl2 : ∀ j, j < n → l j ≤ 150) (hg : ip_A n ag g) {post : SX → Prop} {L u : Nat} (hL : L ≤ 150) (hu : u ≤ 1501) (h1 : ip_sum (ip_cut L l) n ≤ u)
    (hp : ∀ ag', ip_A n ag' (fun j => g j + ip_aw n L u l j) → post (nI n, fp, fo, aw, ar, au, ag', al, ae)) : wX_award_57 post (nI u) (nI L) (nI n) fp fo aw ar au ag al ae := by
  unfold wX_award_57
  refine ip_x_awarded hn hl hl2 hL (nm_r (e' := nI (u - ip_sum (ip_cut L l) n - ip_sum (ip_ab L l) 0)) (pk_sub h1) ⟨n + 1, ?_⟩)
  exact ip_x_award_69 (R := u - ip_sum (ip_cut L l) n) hn hl hl2 hL (by omega) hp n 0 ag (by omega) (ip_A_congr hg (fun j _ => (if_neg (Nat.not_lt_zero j)).symm))
theorem ip_x_award_9 (hn : n ≤ 8) (hl : ip_A n al l) (hl2 : ∀ j, j < n → l j ≤ 150) {post : SX → Prop} {u : Nat} (hu : u ≤ 1501)
    (hp : ∀ L, L ≤ 150 → ip_sum (ip_cut L l) n ≤ u → (L = 150 ∨ u < ip_sum (ip_cut (L + 1) l) n) → wX_award_57 post (nI u) (nI L) (nI n) fp fo aw ar au ag al ae) : ∀ m lo hi k, hi - lo < 2 ^ m → lo ≤ hi → hi ≤ 150 → k + m ≤ 8 →
    ip_sum (ip_cut lo l) n ≤ u → (hi = 150 ∨ u < ip_sum (ip_cut (hi + 1) l) n) → wX_award_9 post (nI u) (nI n) fp fo aw ar au ag al ae (m + 1) (nI lo) (nI hi) (nI k) := by
  intro m
  induction m with
  | zero =>
    intro lo hi k h1 h2 h3 h4 h5 h6
    have e : lo = hi := by have : 2 ^ 0 = 1 := rfl; omega
    subst e
    refine br_f (nI_ge (b := 9) (by omega) (by omega)) (br_t (nI_le (Nat.le_refl _) (by omega)) (hp lo h3 h5 h6))
  | succ m ih =>
    intro lo hi k h1 h2 h3 h4 h5 h6
    have hpw : 2 ^ (m + 1) = 2 ^ m + 2 ^ m := by rw [Nat.pow_succ]; omega
    refine br_f (nI_ge (b := 9) (by omega) (by omega)) (pk_le hi lo (fun e => ?_) (fun e => ?_) rfl rfl)
    · have e : lo = hi := by omega
      subst e
      exact hp lo h3 h5 h6
    · refine nm_r (e' := nI ((lo + hi + 1) / 2)) ?_ ?_
      · rw [nI_add, nI_1, pk_shrN (by omega) _ 1 (by decide)]
      · have hb := ip_big 150 (f := ip_cut ((lo + hi + 1) / 2) l) hn (Nat.le_refl n) (fun j hj => Nat.le_trans (Nat.min_le_left _ _) (hl2 j hj))
        refine ip_x_awarded hn hl hl2 (by omega) (pk_lt u (ip_sum (ip_cut ((lo + hi + 1) / 2) l) n) (fun e2 => ?_) (fun e2 => ?_) rfl rfl)
        · refine nm_r (e' := nI ((lo + hi + 1) / 2 - 1)) (pk_sub (b := 1) (by omega)) (nm_r (nI_1 k) (ih _ _ _ (by omega) (by omega) (by omega) (by omega) h5 (Or.inr ?_)))
          rw [Nat.sub_add_cancel (by omega)]
          exact e2
        · exact nm_r (nI_1 k) (ih _ _ _ (by omega) (by omega) (by omega) (by omega) e2 h6)
theorem ip_x_award (hn : n ≤ 8) (hl : ip_A n al l) (hl2 : ∀ j, j < n → l j ≤ 150) (hg : ip_A n ag g) {post : SX → Prop} {u : Nat} (hu : u ≤ 1501) (hs : u ≤ ip_sum l n)
    (hp : ∀ ag' h, ip_Good ip_EQ n l u h → ip_A n ag' (fun j => g j + h j) → post (nI n, fp, fo, aw, ar, au, ag', al, ae)) : wpX_award post (nI n, fp, fo, aw, ar, au, ag, al, ae) (nI u) := by
  refine ⟨9, ip_x_award_9 hn hl hl2 hu (fun L hL h1 h2 => ?_) 8 0 150 0 (by decide) (by omega) (by omega) (by omega) ?_ (Or.inl rfl)⟩
  · refine ip_x_award_57 hn hl hl2 hg hL hu h1 (fun ag' hA => hp ag' _ (ip_aw_Good h1 ?_) hA)
    rcases h2 with e | e
    · have h3 : ip_sum (ip_cut L l) n = ip_sum l n := ip_sum_congr n (fun j hj => Nat.min_eq_left (by have := hl2 j hj; omega))
      omega
    · rw [ip_cut_up] at e
      omega
  · have h3 : ip_sum (ip_cut 0 l) n = 0 := by
      rw [ip_sum_congr (f := ip_cut 0 l) (g := fun _ => 0) n (fun j hj => Nat.min_eq_right (Nat.zero_le _)), ip_sum_const]; rfl
    omega
theorem ip_x_lose_55 (hn : n ≤ 8) (hl : ip_A n al l) (hl2 : ∀ j, j < n → l j ≤ 150) (hg : ip_A n ag g) {post : SX → Prop} {L u : Nat} (hL : L ≤ 150) (hu : u ≤ 1501) (h1 : ip_sum (ip_ov L l) n ≤ u)
    (hp : ∀ ag', ip_A n ag' (fun j => g j + ip_ls n L u l j) → post (nI n, fp, fo, aw, ar, au, ag', al, ae)) : wX_lose_55 post (nI u) (nI L) (nI n) fp fo aw ar au ag al ae := by
  unfold wX_lose_55
  refine ip_x_lost hn hl hl2 hL (nm_r (e' := nI (u - ip_sum (ip_ov L l) n - ip_sum (ip_at L l) 0)) (pk_sub h1) ⟨n + 1, ?_⟩)
  exact ip_x_lose_67 (R := u - ip_sum (ip_ov L l) n) hn hl hl2 hL (by omega) hp n 0 ag (by omega) (ip_A_congr hg (fun j _ => (if_neg (Nat.not_lt_zero j)).symm))
theorem ip_x_lose_9 (hn : n ≤ 8) (hl : ip_A n al l) (hl2 : ∀ j, j < n → l j ≤ 150) {post : SX → Prop} {u : Nat} (hu : u ≤ 1501)
    (hp : ∀ L, L ≤ 150 → ip_sum (ip_ov L l) n ≤ u → (L = 0 ∨ u < ip_sum (ip_ov (L - 1) l) n) → wX_lose_55 post (nI u) (nI L) (nI n) fp fo aw ar au ag al ae) : ∀ m lo hi k, hi - lo < 2 ^ m → lo ≤ hi → hi ≤ 150 → k + m ≤ 8 →
    ip_sum (ip_ov hi l) n ≤ u → (lo = 0 ∨ u < ip_sum (ip_ov (lo - 1) l) n) → wX_lose_9 post (nI u) (nI n) fp fo aw ar au ag al ae (m + 1) (nI lo) (nI hi) (nI k) := by
  intro m
  induction m with
  | zero =>
    intro lo hi k h1 h2 h3 h4 h5 h6
    have e : lo = hi := by have : 2 ^ 0 = 1 := rfl; omega
    subst e
    refine br_f (nI_ge (b := 9) (by omega) (by omega)) (br_t (nI_le (Nat.le_refl _) (by omega)) (hp lo h3 h5 h6))
  | succ m ih =>
    intro lo hi k h1 h2 h3 h4 h5 h6
    have hpw : 2 ^ (m + 1) = 2 ^ m + 2 ^ m := by rw [Nat.pow_succ]; omega
    refine br_f (nI_ge (b := 9) (by omega) (by omega)) (pk_le hi lo (fun e => ?_) (fun e => ?_) rfl rfl)
    · have e : lo = hi := by omega
      subst e
      exact hp lo h3 h5 h6
    · refine nm_r (e' := nI ((lo + hi) / 2)) ?_ ?_
      · rw [nI_add, pk_shrN (by omega) _ 1 (by decide)]
      · have hb := ip_big 150 (f := ip_ov ((lo + hi) / 2) l) hn (Nat.le_refl n) (fun j hj => Nat.le_trans (Nat.sub_le _ _) (hl2 j hj))
        refine ip_x_lost hn hl hl2 (by omega) (pk_lt u (ip_sum (ip_ov ((lo + hi) / 2) l) n) (fun e2 => ?_) (fun e2 => ?_) rfl rfl)
        · refine nm_r (nI_1 _) (nm_r (nI_1 k) (ih _ _ _ (by omega) (by omega) (by omega) (by omega) h5 (Or.inr ?_)))
          rw [Nat.add_sub_cancel]
          exact e2
        · exact nm_r (nI_1 k) (ih _ _ _ (by omega) (by omega) (by omega) (by omega) e2 h6)
theorem ip_x_lose (hn : n ≤ 8) (hl : ip_A n al l) (hl2 : ∀ j, j < n → l j ≤ 150) (hg : ip_A n ag g) {post : SX → Prop} {u : Nat} (hu : u ≤ 1501) (hs : u ≤ ip_sum l n)
    (hp : ∀ ag' h, ip_Good (ip_LO l) n l u h → ip_A n ag' (fun j => g j + h j) → post (nI n, fp, fo, aw, ar, au, ag', al, ae)) : wpX_lose post (nI n, fp, fo, aw, ar, au, ag, al, ae) (nI u) := by
  refine ⟨9, ip_x_lose_9 hn hl hl2 hu (fun L hL h1 h2 => ?_) 8 0 150 0 (by decide) (by omega) (by omega) (by omega) ?_ (Or.inl rfl)⟩
  · refine ip_x_lose_55 hn hl hl2 hg hL hu h1 (fun ag' hA => hp ag' _ (ip_ls_Good h1 ?_) hA)
    by_cases e : L = 0
    · subst e
      have h3 : ip_sum (ip_ov 0 l) n = ip_sum l n := ip_sum_congr n (fun j hj => Nat.sub_zero _)
      omega
    · rcases h2 with e2 | e2
      · exact absurd e2 e
      · have h4 := ip_ov_up (L - 1) l n
        rw [Nat.sub_add_cancel (by omega)] at h4
        omega
  · have h3 : ip_sum (ip_ov 150 l) n = 0 := by
      rw [ip_sum_congr (f := ip_ov 150 l) (g := fun _ => 0) n (fun j hj => Nat.sub_eq_zero_of_le (hl2 j hj)), ip_sum_const]; rfl
    omega
end
end
section
/-! the component's quotas -/
section
variable {n : Nat} {w rk ru g l : Nat → Nat} {fp fo : Int32} {aw ar au ag al ae : Nat → Int32}
theorem ip_mul_b {a b c d : Nat} (h1 : a ≤ c) (h2 : b ≤ d) : a * b ≤ c * d := Nat.mul_le_mul h1 h2
theorem ip_x_greater (C : ip_C n w rk aw ar) (hg : ip_A n ag g) (hg2 : ∀ j, j < n → g j ≤ 150) {c b : Nat} (hc : c < n) (hb : b < n) {post : Int32 → Prop}
    (h0 : ¬ w b * (g c + 1) < w c * (g b + 1) → post 0) (h1 : w b * (g c + 1) < w c * (g b + 1) → post 1) : wpX_isGreater post (nI n, fp, fo, aw, ar, au, ag, al, ae) (nI c) (nI b) := by
  obtain ⟨hn, hw, hw2, hr, hr2⟩ := C
  have ic : vp_in (nI c) 8 := ip_in8 (by omega)
  have ib : vp_in (nI b) 8 := ip_in8 (by omega)
  have wc := hw2 c hc
  have wb := hw2 b hb
  have gc := hg2 c hc
  have gb := hg2 b hb
  have m1 : w c * (g b + 1) ≤ 150 * 151 := ip_mul_b wc (by omega)
  have m2 : w b * (g c + 1) ≤ 150 * 151 := ip_mul_b wb (by omega)
  refine ⟨ic, ib, ib, ic, pk_le (w c * (g b + 1)) (w b * (g c + 1)) (fun e => h0 (by omega)) (fun e => h1 e) ?_ ?_⟩
  · rw [ip_rd hw hc hn, ip_rd hg hb hn, nI_1, pk_mul]
  · rw [ip_rd hw hb hn, ip_rd hg hc hn, nI_1, pk_mul]
/-- the scan: nobody yet, or b -/
def ip_St (lt : Nat → Nat → Nat → Nat → Prop) (cand : Nat → Prop) (h : Nat → Nat) (m : Nat) (x : Int32) : Prop :=
  (x = -1 ∧ ∀ c, c < m → ¬ cand c) ∨ ∃ b, x = nI b ∧ ip_Bb lt cand h m b
theorem ip_St_0 {lt : Nat → Nat → Nat → Nat → Prop} {cand : Nat → Prop} {h : Nat → Nat} : ip_St lt cand h 0 (-1) := Or.inl ⟨rfl, fun c hc => by omega⟩
theorem ip_St_skip {lt : Nat → Nat → Nat → Nat → Prop} {cand : Nat → Prop} {h : Nat → Nat} {m : Nat} {x : Int32} (S : ip_St lt cand h m x) (hn : ¬ cand m) : ip_St lt cand h (m + 1) x := by
  rcases S with ⟨e, H⟩ | ⟨b, e, B⟩
  · refine Or.inl ⟨e, fun c hc => ?_⟩
    by_cases ec : c = m
    · subst ec; exact hn
    · exact H c (by omega)
  · exact Or.inr ⟨b, e, ip_Bb_skip B hn⟩
theorem ip_x_q87 (C : ip_C n w rk aw ar) (hg : ip_A n ag g) (hg2 : ∀ j, j < n → g j ≤ 150) {r x4 x5 : Nat} (h4 : r < 4) {post : SX → Prop} {J : Int32 → Int32 → (Nat → Int32) → (Nat → Int32) → (Nat → Int32) → (Nat → Int32) → (Nat → Int32) → (Nat → Int32) → Prop}
    (hex : ∃ c, c < n ∧ ip_msk rk r g c < ip_msk rk r w c)
    (hJ : ∀ b, ip_Bb (ip_SH (ip_msk rk r w)) (fun c => ip_msk rk r g c < ip_msk rk r w c) (ip_msk rk r g) n b → J (nI x4) (nI (x5 + 1)) aw ar au (upd ag b (nI (g b + 1))) al ae) : ∀ d i x6, i + d = n →
    ip_St (ip_SH (ip_msk rk r w)) (fun c => ip_msk rk r g c < ip_msk rk r w c) (ip_msk rk r g) i x6 → wX_quotas_87 post J (nI r) (nI (x4 + 1)) (nI x5) (nI n) fp fo aw ar au ag al ae (d + 1) x6 (nI i) := by
  have C' := C
  obtain ⟨hn, hw, hw2, hr, hr2⟩ := C'
  intro d
  induction d with
  | zero =>
    intro i x6 hi S
    have e : i = n := by omega
    subst e
    refine br_t (nI_le (Nat.le_refl _) (by omega)) ?_
    rcases S with ⟨_, H⟩ | ⟨b, e, B⟩
    · obtain ⟨c, hc, hl⟩ := hex
      exact absurd hl (H c hc)
    · subst e
      have hb := B.1
      have hib : vp_in (nI b) 8 := ip_in8 (by omega)
      refine br_f (nI_pos (by omega)) ⟨hib, hib, nm_r (ip_up (y := nI (g b + 1)) (by omega) ?_) (nm_r (pk_m1 x4) (nm_r (nI_1 x5) (hJ b B)))⟩
      rw [ip_rd hg hb hn, nI_1]
  | succ d ih =>
    intro i x6 hi S
    have hi' : i < n := by omega
    have hin : vp_in (nI i) 8 := ip_in8 (by omega)
    have b1 := hr2 i hi'
    have b2 := hw2 i hi'
    have b3 := hg2 i hi'
    refine br_f (nI_ge hi' (by omega)) ⟨hin, ?_⟩
    refine pk_eq (rk i) r (fun e => ⟨hin, hin, ?_⟩) (fun e => ?_) (ip_rd hr hi' hn) rfl
    · refine pk_le (w i) (g i) (fun e2 => ?_) (fun e2 => ?_) (ip_rd hw hi' hn) (ip_rd hg hi' hn)
      · refine nm_r (nI_1 i) (ih (i + 1) x6 (by omega) (ip_St_skip S ?_))
        show ¬ ip_msk rk r g i < ip_msk rk r w i
        rw [ip_msk_s e, ip_msk_s e]; omega
      · have hcd : ip_msk rk r g i < ip_msk rk r w i := by rw [ip_msk_s e, ip_msk_s e]; exact e2
        rcases S with ⟨ex, H⟩ | ⟨b, ex, B⟩
        · subst ex
          exact br_t (by decide) (nm_r (nI_1 i) (ih (i + 1) (nI i) (by omega) (Or.inr ⟨i, rfl, ip_Bb_new H hcd⟩)))
        · subst ex
          have hb := B.1
          have hrb : rk b = r := by
            by_cases z : rk b = r
            · exact z
            · have h3 : ip_msk rk r g b < ip_msk rk r w b := B.2.1
              rw [ip_msk_n z, ip_msk_n z] at h3
              omega
          have hlt : ip_SH (ip_msk rk r w) i (ip_msk rk r g i) b (ip_msk rk r g b) ↔ w b * (g i + 1) < w i * (g b + 1) := by
            unfold ip_SH
            rw [ip_msk_s e, ip_msk_s e, ip_msk_s hrb, ip_msk_s hrb]
          refine br_f (nI_pos (by omega)) (ip_x_greater C hg hg2 hi' (by omega) (fun z => ?_) (fun z => ?_))
          · exact br_t rfl (nm_r (nI_1 i) (ih (i + 1) (nI b) (by omega) (Or.inr ⟨b, rfl, ip_Bb_keep B (fun y => z (hlt.mp y))⟩)))
          · exact br_f (by decide) (nm_r (nI_1 i) (ih (i + 1) (nI i) (by omega) (Or.inr ⟨i, rfl, ip_Bb_take (ip_O_SH _) B hcd (hlt.mpr z)⟩)))
    · refine nm_r (nI_1 i) (ih (i + 1) x6 (by omega) (ip_St_skip S ?_))
      show ¬ ip_msk rk r g i < ip_msk rk r w i
      rw [ip_msk_n e, ip_msk_n e]; omega
theorem ip_msk_inc {r b : Nat} (hb : rk b = r) : ∀ c, ip_inc (ip_msk rk r g) b c = ip_msk rk r (ip_inc g b) c := by
  intro c
  by_cases e : c = b
  · subst e; rw [ip_inc_s, ip_msk_s hb, ip_msk_s hb, ip_inc_s]
  · rw [ip_inc_n e]; unfold ip_msk; rw [ip_inc_n e]
theorem ip_x_q69 (C : ip_C n w rk aw ar) {r p : Nat} {g0 : Nat → Nat} (h4 : r < 4) (hps : p ≤ ip_tot n w rk r) (hp9 : p ≤ 1501) {post : SX → Prop}
    (hp : ∀ ag' g', ip_A n ag' g' → ip_Good (ip_SH (ip_msk rk r w)) n (ip_msk rk r w) p (ip_msk rk r g') → (∀ j, j < n → rk j ≠ r → g' j = g0 j) → post (nI n, fp, fo, aw, ar, au, ag', al, ae)) : ∀ d k g ag, k + d ≤ 8 → d ≤ p →
    ip_Good (ip_SH (ip_msk rk r w)) n (ip_msk rk r w) (p - d) (ip_msk rk r g) → ip_A n ag g → (∀ j, j < n → g j ≤ 150) → (∀ j, j < n → rk j ≠ r → g j = g0 j) → wX_quotas_69 post (nI r) (nI n) fp fo (d + 1) (nI d) (nI k) aw ar au ag al ae := by
  have hn := C.1
  intro d
  induction d with
  | zero =>
    intro k g ag hk hd G hA hg2 ho
    refine br_c (fun _ => hp ag g hA G ho) (fun _ => br_t (nI_le (a := 0) (b := 0) (Nat.le_refl _) (by omega)) (hp ag g hA G ho))
  | succ d ih =>
    intro k g ag hk hd G hA hg2 ho
    refine br_f (nI_ge (b := 8) (by omega) (by omega)) (br_f (nI_nle (by omega) (by omega)) ⟨n + 1, ?_⟩)
    have hex : ∃ c, c < n ∧ ip_msk rk r g c < ip_msk rk r w c := by
      refine ip_sum_ex ?_
      rw [G.1]
      unfold ip_tot at hps
      omega
    refine ip_x_q87 C hA hg2 h4 hex (fun b B => ?_) n 0 (-1) (by omega) ip_St_0
    have hb := B.1
    have hrb : rk b = r := by
      by_cases z : rk b = r
      · exact z
      · have h3 : ip_msk rk r g b < ip_msk rk r w b := B.2.1
        rw [ip_msk_n z, ip_msk_n z] at h3
        omega
    have hlb : g b < w b := by
      have h3 : ip_msk rk r g b < ip_msk rk r w b := B.2.1
      rw [ip_msk_s hrb, ip_msk_s hrb] at h3
      exact h3
    have hwb := C.2.2.1 b hb
    refine ih (k + 1) (ip_inc g b) _ (by omega) (by omega) ?_ ?_ ?_ ?_
    · have G2 := ip_Good_step (ip_O_SH _) G (fun c _ => Iff.rfl) B
      rw [show p - (d + 1) + 1 = p - d by omega] at G2
      exact ip_Good_congr G2 (fun c _ => ip_msk_inc hrb c)
    · intro j hj
      by_cases e : j = b
      · subst e; rw [pk_us, ip_inc_s]
      · rw [pk_un e, ip_inc_n e]; exact hA j hj
    · intro j hj
      by_cases e : j = b
      · subst e; rw [ip_inc_s]; omega
      · rw [ip_inc_n e]; exact hg2 j hj
    · intro j hj hne
      have e : j ≠ b := fun z => by subst z; exact hne hrb
      rw [ip_inc_n e]; exact ho j hj hne
theorem ip_x_q6 (C : ip_C n w rk aw ar) {r p : Nat} {g0 : Nat → Nat} (h4 : r < 4) (hps : p ≤ ip_tot n w rk r) (hp9 : p ≤ 1501) (hz : ∀ j, j < n → rk j = r → g0 j = 0) {post : SX → Prop}
    (hp : ∀ ag', ip_A n ag' (fun j => if rk j = r then ip_qu p (ip_tot n w rk r) (ip_msk rk r w) j else g0 j) → ∃ n69, wX_quotas_69 post (nI r) (nI n) fp fo n69 (nI (p - ip_sum (ip_qu p (ip_tot n w rk r) (ip_msk rk r w)) n)) 0 aw ar au ag' al ae) : ∀ d i ag, i + d = n →
    ip_A n ag (fun j => if j < i then (if rk j = r then ip_qu p (ip_tot n w rk r) (ip_msk rk r w) j else g0 j) else g0 j) →
    wX_quotas_6 post (nI r) (nI p) (nI (ip_tot n w rk r)) (nI n) fp fo (d + 1) (nI (p - ip_sum (ip_qu p (ip_tot n w rk r) (ip_msk rk r w)) i)) (nI i) aw ar au ag al ae := by
  obtain ⟨hn, hw, hw2, hr, hr2⟩ := C
  have hT : ip_tot n w rk r ≤ 8 * 150 := ip_big 150 hn (Nat.le_refl n) (ip_msk_150 hw2)
  intro d
  induction d with
  | zero =>
    intro i ag hi hA
    have e : i = n := by omega
    subst e
    refine br_t (nI_le (Nat.le_refl _) (by omega)) (hp ag (ip_A_congr hA (fun j hj => ?_)))
    exact if_pos hj
  | succ d ih =>
    intro i ag hi hA
    have hi' : i < n := by omega
    have hin : vp_in (nI i) 8 := ip_in8 (by omega)
    have b1 := hr2 i hi'
    have b2 := hw2 i hi'
    have K0 : ip_qu p (ip_tot n w rk r) (ip_msk rk r w) i = 0 → (if rk i = r then ip_qu p (ip_tot n w rk r) (ip_msk rk r w) i else g0 i) = g0 i → wX_quotas_6 post (nI r) (nI p) (nI (ip_tot n w rk r)) (nI n) fp fo (d + 1) (nI (p - ip_sum (ip_qu p (ip_tot n w rk r) (ip_msk rk r w)) i)) (nI (i + 1)) aw ar au ag al ae := by
      intro q0 e0
      have h1 := ih (i + 1) ag (by omega) (ip_A_congr hA (fun j hj => ?_))
      · rw [ip_sum_s, q0, Nat.add_zero] at h1
        exact h1
      · by_cases ej : j = i
        · subst ej
          rw [if_neg (Nat.lt_irrefl j), if_pos (Nat.lt_succ_self j)]
          exact e0.symm
        · by_cases ej2 : j < i
          · rw [if_pos ej2, if_pos (show j < i + 1 by omega)]
          · rw [if_neg ej2, if_neg (show ¬ j < i + 1 by omega)]
    refine br_f (nI_ge hi' (by omega)) ⟨hin, ?_⟩
    refine pk_eq (rk i) r (fun e => ?_) (fun e => ?_) (ip_rd hr hi' hn) rfl
    · refine pk_le (ip_tot n w rk r) 0 (fun e2 => ?_) (fun e2 => ?_) rfl rfl
      · have q0 : ip_qu p (ip_tot n w rk r) (ip_msk rk r w) i = 0 := by
          unfold ip_qu
          rw [show ip_tot n w rk r = 0 by omega, Nat.div_zero]
        refine nm_r (nI_1 i) (K0 q0 ?_)
        rw [if_pos e, q0, hz i hi' e]
      · have hq : nI p * aw (nI i).toNatClampNeg / nI (ip_tot n w rk r) = nI (ip_qu p (ip_tot n w rk r) (ip_msk rk r w) i) := by
          have m1 : p * w i ≤ 1501 * 150 := ip_mul_b hp9 b2
          rw [ip_rd hw hi' hn, pk_mul, pk_div (by omega) e2 (by omega)]
          unfold ip_qu
          rw [ip_msk_s e]
        have hsum : ip_sum (ip_qu p (ip_tot n w rk r) (ip_msk rk r w)) (i + 1) ≤ p :=
          Nat.le_trans (ip_sum_mono (by omega)) (ip_qu_sum (n := n) (p := p) (W := ip_msk rk r w) e2).1
        rw [ip_sum_s] at hsum
        refine ⟨hin, nI_ne0 e2 (by omega), hin, nm_r (ip_up (y := nI (ip_qu p (ip_tot n w rk r) (ip_msk rk r w) i)) (by omega) hq) ⟨hin, ?_⟩⟩
        refine nm_r (e' := nI (p - ip_sum (ip_qu p (ip_tot n w rk r) (ip_msk rk r w)) (i + 1))) ?_ (nm_r (nI_1 i) (ih (i + 1) _ (by omega) (ip_A_congr (ip_A_upd hA) (fun j hj => ?_))))
        · rw [nI_clamp (by omega), pk_us, pk_sub (by omega), ip_sum_s, Nat.sub_sub]
        · by_cases ej : j = i
          · subst ej
            rw [if_pos rfl, if_pos (Nat.lt_succ_self j), if_pos e]
          · rw [if_neg ej]
            by_cases ej2 : j < i
            · rw [if_pos ej2, if_pos (show j < i + 1 by omega)]
            · rw [if_neg ej2, if_neg (show ¬ j < i + 1 by omega)]
    · have q0 : ip_qu p (ip_tot n w rk r) (ip_msk rk r w) i = 0 := by
        unfold ip_qu
        rw [ip_msk_n e, Nat.mul_zero, Nat.zero_div]
      exact nm_r (nI_1 i) (K0 q0 (if_neg e))
theorem ip_x_quotas (C : ip_C n w rk aw ar) (hg : ip_A n ag g) (hg2 : ∀ j, j < n → g j ≤ 150) {r p : Nat} (h4 : r < 4) (hps : p ≤ ip_tot n w rk r) (hp9 : p ≤ 1501) (hz : ∀ j, j < n → rk j = r → g j = 0) {post : SX → Prop}
    (hp : ∀ ag' g', ip_A n ag' g' → ip_Good (ip_SH (ip_msk rk r w)) n (ip_msk rk r w) p (ip_msk rk r g') → (∀ j, j < n → rk j ≠ r → g' j = g j) → post (nI n, fp, fo, aw, ar, au, ag', al, ae)) : wpX_quotas post (nI n, fp, fo, aw, ar, au, ag, al, ae) (nI r) (nI p) (nI (ip_tot n w rk r)) := by
  have hn := C.1
  refine ⟨n + 1, ip_x_q6 C h4 hps hp9 hz (fun ag' hA => ?_) n 0 ag (by omega) (ip_A_congr hg (fun j _ => (if_neg (Nat.not_lt_zero j)).symm))⟩
  have hm : ∀ j, j < n → ip_msk rk r (fun j => if rk j = r then ip_qu p (ip_tot n w rk r) (ip_msk rk r w) j else g j) j = ip_qu p (ip_tot n w rk r) (ip_msk rk r w) j := by
    intro j hj
    by_cases e : rk j = r
    · rw [ip_msk_s e, if_pos e]
    · rw [ip_msk_n e]
      unfold ip_qu
      rw [ip_msk_n e, Nat.mul_zero, Nat.zero_div]
  have hG : ip_Good (ip_SH (ip_msk rk r w)) n (ip_msk rk r w) (ip_sum (ip_qu p (ip_tot n w rk r) (ip_msk rk r w)) n) (ip_qu p (ip_tot n w rk r) (ip_msk rk r w)) ∧ ip_sum (ip_qu p (ip_tot n w rk r) (ip_msk rk r w)) n ≤ p ∧ p ≤ ip_sum (ip_qu p (ip_tot n w rk r) (ip_msk rk r w)) n + n := by
    by_cases e2 : 0 < ip_tot n w rk r
    · exact ⟨ip_qu_Good e2 hps, ip_qu_sum e2⟩
    · have hq0 : ∀ c, c < n → ip_qu p (ip_tot n w rk r) (ip_msk rk r w) c = 0 := fun c _ => by
        unfold ip_qu
        rw [show ip_tot n w rk r = 0 by omega, Nat.div_zero]
      have hs0 : ip_sum (ip_qu p (ip_tot n w rk r) (ip_msk rk r w)) n = 0 := by
        rw [ip_sum_congr (g := fun _ => 0) n hq0, ip_sum_const]; rfl
      rw [hs0]
      exact ⟨ip_Good_0 hq0, by omega, by omega⟩
  obtain ⟨G, hs1, hs2⟩ := hG
  refine ⟨_, ip_x_q69 C h4 hps hp9 hp (p - ip_sum (ip_qu p (ip_tot n w rk r) (ip_msk rk r w)) n) 0 _ ag' (by omega) (by omega) ?_ hA ?_ ?_⟩
  · rw [show p - (p - ip_sum (ip_qu p (ip_tot n w rk r) (ip_msk rk r w)) n) = ip_sum (ip_qu p (ip_tot n w rk r) (ip_msk rk r w)) n by omega]
    exact ip_Good_congr G (fun c hc => (hm c hc).symm)
  · intro j hj
    by_cases e : rk j = r
    · have h1 := G.2.1 j hj
      rw [ip_msk_s e] at h1
      have h2 := C.2.2.1 j hj
      show (if rk j = r then ip_qu p (ip_tot n w rk r) (ip_msk rk r w) j else g j) ≤ 150
      rw [if_pos e]; omega
    · show (if rk j = r then ip_qu p (ip_tot n w rk r) (ip_msk rk r w) j else g j) ≤ 150
      rw [if_neg e]; exact hg2 j hj
  · intro j hj hne
    exact if_neg hne
end
end
section
/-! the component's shareRank and shareOut -/
theorem ip_Good_l {lt : Nat → Nat → Nat → Nat → Prop} {n p : Nat} {l l' h : Nat → Nat} (G : ip_Good lt n l p h) (e : ∀ c, c < n → l c = l' c) : ip_Good lt n l' p h := by
  refine ⟨G.1, fun c hc => by rw [← e c hc]; exact G.2.1 c hc, fun c d hc hd hne h0 hdl => ?_⟩
  rw [← e d hd] at hdl
  exact G.2.2 c d hc hd hne h0 hdl
/-- the rules -/
def ip_U (ru : Nat → Nat) (au : Nat → Int32) : Prop := ip_A 4 au ru ∧ ∀ r, r < 4 → ru r ≤ 3
section
variable {n : Nat} {w rk ru g l : Nat → Nat} {fp fo : Int32} {aw ar au ag al ae : Nat → Int32}
theorem ip_mskadd {r : Nat} {h f : Nat → Nat} (hz : ∀ j, j < n → rk j = r → g j = 0) (hh : ∀ j, j < n → h j ≤ ip_msk rk r f j) : ∀ j, j < n → h j = ip_msk rk r (fun j => g j + h j) j := by
  intro j hj
  by_cases e : rk j = r
  · rw [ip_msk_s e, hz j hj e]; omega
  · have h1 := hh j hj
    rw [ip_msk_n e] at h1 ⊢
    omega
theorem ip_mskout {r : Nat} {h f : Nat → Nat} (hh : ∀ j, j < n → h j ≤ ip_msk rk r f j) : ∀ j, j < n → rk j ≠ r → g j + h j = g j := by
  intro j hj e
  have h1 := hh j hj
  rw [ip_msk_n e] at h1
  omega
theorem ip_x_86 (C : ip_C n w rk aw ar) (hg : ip_A n ag g) {r p : Nat} (h4 : r < 4) (hu : ru r = 3) (hps : p ≤ ip_tot n w rk r) (hp9 : p ≤ 1501) (hz : ∀ j, j < n → rk j = r → g j = 0) {post : SX → Prop}
    (hp : ∀ ag' al' g', ip_A n ag' g' → ip_RG n (ru r) (ip_msk rk r w) p (ip_msk rk r g') → (∀ j, j < n → rk j ≠ r → g' j = g j) → post (nI n, fp, fo, aw, ar, au, ag', al', ae)) :
    wX_shareRank_86 post (nI r) (nI p) (nI (min p ((ip_tot n w rk r + 1) / 2))) (nI n) fp fo aw ar au ag al ae := by
  have hn := C.1
  have hw2 := C.2.2.1
  unfold wX_shareRank_86
  have hhf : ip_tot n w rk r ≤ 2 * ip_sum (ip_hf (ip_msk rk r w)) n := ip_hf_sum _ n
  refine ip_x_take (mo := ip_hf w) C hg h4 (Or.inr ⟨rfl, rfl⟩) (fun i hi e => by rw [hz i hi e]; exact Nat.zero_le _) (fun al1 hA1 => ?_)
  have hA1' : ip_A n al1 (ip_hf (ip_msk rk r w)) := ip_A_congr hA1 (fun j hj => by
    by_cases e : rk j = r
    · rw [ip_msk_s e]; unfold ip_sb ip_hf; rw [hz j hj e, ip_msk_s e]; rfl
    · rw [ip_msk_n e]; unfold ip_hf; rw [ip_msk_n e])
  refine ip_x_award hn hA1' (fun j hj => ?_) hg (by omega) (by omega) (fun ag1 g0 G1 hB1 => ?_)
  · have h1 := ip_msk_150 (rk := rk) (r := r) hw2 j hj
    show (ip_msk rk r w j + 1) / 2 ≤ 150
    omega
  have hg0 : ∀ j, j < n → g0 j ≤ ip_msk rk r w j := fun j hj => by
    have h1 : g0 j ≤ (ip_msk rk r w j + 1) / 2 := G1.2.1 j hj
    omega
  refine ip_x_take (mo := w) C hB1 h4 (Or.inl ⟨rfl, rfl⟩) (fun i hi e => ?_) (fun al2 hA2 => ?_)
  · have h1 := hg0 i hi
    rw [ip_msk_s e] at h1
    rw [hz i hi e]; omega
  have hA2' : ip_A n al2 (ip_sb (ip_msk rk r w) g0) := ip_A_congr hA2 (fun j hj => by
    by_cases e : rk j = r
    · rw [ip_msk_s e]; unfold ip_sb; dsimp only; rw [hz j hj e, ip_msk_s e, Nat.zero_add]
    · rw [ip_msk_n e]; unfold ip_sb; rw [ip_msk_n e, Nat.zero_sub])
  have hsum : ip_sum (ip_sb (ip_msk rk r w) g0) n + ip_sum g0 n = ip_tot n w rk r := by
    rw [← ip_sum_add]
    exact ip_sum_congr n (fun j hj => Nat.sub_add_cancel (hg0 j hj))
  rw [G1.1] at hsum
  dsimp only
  rw [pk_sub (Nat.min_le_left _ _)]
  refine ip_x_lose hn hA2' (fun j hj => ?_) hB1 (by omega) (by omega) (fun ag2 h G2 hB2 => ?_)
  · have h1 := ip_msk_150 (rk := rk) (r := r) hw2 j hj
    show ip_msk rk r w j - g0 j ≤ 150
    omega
  have hh : ∀ j, j < n → g0 j + h j ≤ ip_msk rk r w j := fun j hj => by
    have h1 : h j ≤ ip_msk rk r w j - g0 j := G2.2.1 j hj
    have h2 := hg0 j hj
    omega
  refine hp ag2 al2 (fun j => g j + (g0 j + h j)) (ip_A_congr hB2 (fun j _ => Nat.add_assoc _ _ _)) ?_ (ip_mskout hh)
  refine ⟨fun e => by omega, fun e => by omega, fun e => by omega, fun _ => ⟨g0, h, fun c hc => (ip_mskadd hz hh c hc).symm, G1, ?_⟩⟩
  rw [show p - (ip_sum (ip_msk rk r w) n + 1) / 2 = p - min p ((ip_tot n w rk r + 1) / 2) by unfold ip_tot; omega]
  exact G2
theorem ip_x_rank (C : ip_C n w rk aw ar) (U : ip_U ru au) (hg : ip_A n ag g) (hg2 : ∀ j, j < n → g j ≤ 150) {r p : Nat} (h4 : r < 4) (hps : p ≤ ip_tot n w rk r) (hp9 : p ≤ 1501) (hz : ∀ j, j < n → rk j = r → g j = 0) {post : SX → Prop}
    (hp : ∀ ag' al' g', ip_A n ag' g' → ip_RG n (ru r) (ip_msk rk r w) p (ip_msk rk r g') → (∀ j, j < n → rk j ≠ r → g' j = g j) → post (nI n, fp, fo, aw, ar, au, ag', al', ae)) :
    wpX_shareRank post (nI n, fp, fo, aw, ar, au, ag, al, ae) (nI r) (nI p) (nI (ip_tot n w rk r)) := by
  have hn := C.1
  have hw2 := C.2.2.1
  have hin : vp_in (nI r) 4 := vp_in_nI h4 (by omega)
  have hur := U.2 r h4
  have hrd := ip_rd U.1 h4 (by omega)
  have hT : ip_tot n w rk r ≤ 8 * 150 := ip_big 150 hn (Nat.le_refl n) (ip_msk_150 hw2)
  have hA0 : ∀ al', ip_A n al' (ip_msk rk r (ip_sb w g)) → ip_A n al' (ip_msk rk r w) := fun al' hA => ip_A_congr hA (fun j hj => by
    by_cases e : rk j = r
    · rw [ip_msk_s e, ip_msk_s e]; unfold ip_sb; rw [hz j hj e, Nat.sub_zero]
    · rw [ip_msk_n e, ip_msk_n e])
  unfold wpX_shareRank
  refine ⟨hin, pk_eq (ru r) 0 (fun e => ?_) (fun e0 => ⟨hin, pk_eq (ru r) 1 (fun e => ?_) (fun e1 => ⟨hin, pk_eq (ru r) 2 (fun e => ?_) (fun e2 => ?_) hrd rfl⟩) hrd rfl⟩) hrd rfl⟩
  · refine ip_x_take (mo := w) C hg h4 (Or.inl ⟨rfl, rfl⟩) (fun i hi e => by rw [hz i hi e]; exact Nat.zero_le _) (fun al' hA => ?_)
    refine ip_x_award hn (hA0 al' hA) (ip_msk_150 hw2) hg hp9 hps (fun ag' h G hB => ?_)
    exact hp ag' al' _ hB ⟨fun _ => ip_Good_congr G (ip_mskadd hz G.2.1), fun e1 => by omega, fun e1 => by omega, fun e1 => by omega⟩ (ip_mskout G.2.1)
  · refine ip_x_take (mo := w) C hg h4 (Or.inl ⟨rfl, rfl⟩) (fun i hi e => by rw [hz i hi e]; exact Nat.zero_le _) (fun al' hA => ?_)
    refine ip_x_lose hn (hA0 al' hA) (ip_msk_150 hw2) hg hp9 hps (fun ag' h G hB => ?_)
    exact hp ag' al' _ hB ⟨fun e1 => by omega, fun _ => ip_Good_congr G (ip_mskadd hz G.2.1), fun e1 => by omega, fun e1 => by omega⟩ (ip_mskout G.2.1)
  · refine ip_x_quotas C hg hg2 h4 hps hp9 hz (fun ag' g' hB G ho => ?_)
    exact hp ag' al g' hB ⟨fun e1 => by omega, fun e1 => by omega, fun _ => G, fun e1 => by omega⟩ ho
  · refine nm_r (e' := nI ((ip_tot n w rk r + 1) / 2)) ?_ (pk_le ((ip_tot n w rk r + 1) / 2) p (fun e => ?_) (fun e => ?_) rfl rfl)
    · rw [nI_1, pk_shrN (by omega) _ 1 (by decide)]
    · have K := ip_x_86 (fp := fp) (fo := fo) (au := au) (al := al) (ae := ae) C hg h4 (show ru r = 3 by omega) hps hp9 hz hp
      rw [Nat.min_eq_right e] at K
      exact K
    · have K := ip_x_86 (fp := fp) (fo := fo) (au := au) (al := al) (ae := ae) C hg h4 (show ru r = 3 by omega) hps hp9 hz hp
      rw [Nat.min_eq_left (by omega)] at K
      exact K
theorem ip_x_out27 (C : ip_C n w rk aw ar) (U : ip_U ru au) {k : Nat} (hk : k ≤ 1501) {post : SX → Prop}
    (hp : ∀ ag' al' g', ip_A n ag' g' → ip_Fin n w rk ru k g' → post (nI n, fp, nI (k - ip_pre n w rk 4), aw, ar, au, ag', al', ae)) : ∀ d r g ag al, r + d = 4 → ip_A n ag g →
    (∀ s, s < r → ip_RG n (ru s) (ip_msk rk s w) (ip_part n w rk k s) (ip_msk rk s g)) → (∀ j, j < n → r ≤ rk j → g j = 0) → (∀ j, j < n → g j ≤ 150) →
    wX_shareOut_27 post (d + 1) (nI (k - ip_pre n w rk r)) (nI r) (nI n) fp fo aw ar au ag al ae := by
  have hn := C.1
  have hw2 := C.2.2.1
  have hr2 := C.2.2.2.2
  intro d
  induction d with
  | zero =>
    intro r g ag al hr hA H hz hg2
    have e : r = 4 := by omega
    subst e
    exact br_t (nI_le (a := 4) (b := 4) (Nat.le_refl _) (by omega)) (hp ag al g hA H)
  | succ d ih =>
    intro r g ag al hr hA H hz hg2
    have h4 : r < 4 := by omega
    have hT : ip_tot n w rk r ≤ 8 * 150 := ip_big 150 hn (Nat.le_refl n) (ip_msk_150 hw2)
    have K : ∀ ag' al' g', ip_A n ag' g' → ip_RG n (ru r) (ip_msk rk r w) (ip_part n w rk k r) (ip_msk rk r g') → (∀ j, j < n → rk j ≠ r → g' j = g j) →
        wX_shareOut_27 post (d + 1) (nI (k - ip_pre n w rk (r + 1))) (nI (r + 1)) (nI n) fp fo aw ar au ag' al' ae := by
      intro ag' al' g' hA' R ho
      refine ih (r + 1) g' ag' al' (by omega) hA' (fun s hs => ?_) (fun j hj hle => ?_) (fun j hj => ?_)
      · by_cases es : s = r
        · subst es; exact R
        · refine ip_RG_congr (H s (by omega)) (fun c hc => ?_)
          by_cases ec : rk c = s
          · rw [ip_msk_s ec, ip_msk_s ec, ho c hc (by omega)]
          · rw [ip_msk_n ec, ip_msk_n ec]
      · rw [ho j hj (by omega)]; exact hz j hj (by omega)
      · by_cases ej : rk j = r
        · have h1 := ip_RG_le R j hj
          rw [ip_msk_s ej, ip_msk_s ej] at h1
          have h2 := hw2 j hj
          omega
        · rw [ho j hj ej]; exact hg2 j hj
    refine br_f (nI_ge (b := 4) h4 (by omega)) (ip_x_total C h4 (pk_le (ip_tot n w rk r) (k - ip_pre n w rk r) (fun e => ?_) (fun e => ?_) rfl rfl))
    · have ep : ip_part n w rk k r = ip_tot n w rk r := Nat.min_eq_right e
      rw [ep] at K
      unfold wX_shareOut_51
      refine ip_x_rank C U hA hg2 h4 (Nat.le_refl _) (by omega) (fun j hj ej => hz j hj (by omega)) (fun ag' al' g' hA' R ho => ?_)
      refine nm_r (e' := nI (k - ip_pre n w rk (r + 1))) ?_ (nm_r (nI_1 r) (K ag' al' g' hA' R ho))
      rw [pk_sub e, ip_pre_s, Nat.sub_sub]
    · have ep : ip_part n w rk k r = k - ip_pre n w rk r := Nat.min_eq_left (by omega)
      rw [ep] at K
      unfold wX_shareOut_51
      refine ip_x_rank C U hA hg2 h4 (by omega) (by omega) (fun j hj ej => hz j hj (by omega)) (fun ag' al' g' hA' R ho => ?_)
      refine nm_r (e' := nI (k - ip_pre n w rk (r + 1))) ?_ (nm_r (nI_1 r) (K ag' al' g' hA' R ho))
      rw [pk_sub (Nat.le_refl _), ip_pre_s]
      exact congrArg nI (by omega)
theorem ip_x_out4 (hn : n ≤ 8) {x2 : Int32} {post : SX → Prop}
    (hp : ∀ ag', ip_A n ag' (fun _ => 0) → ∃ n27, wX_shareOut_27 post n27 x2 0 (nI n) fp fo aw ar au ag' al ae) : ∀ d i ag, i + d = n → ip_A i ag (fun _ => 0) →
    wX_shareOut_4 post x2 (nI n) fp fo (d + 1) (nI i) aw ar au ag al ae := by
  intro d
  induction d with
  | zero =>
    intro i ag hi hA
    have e : i = n := by omega
    subst e
    exact br_t (nI_le (Nat.le_refl _) (by omega)) (hp ag hA)
  | succ d ih =>
    intro i ag hi hA
    have hi' : i < n := by omega
    refine br_f (nI_ge hi' (by omega)) ⟨ip_in8 (by omega), nm_r (ip_up (y := nI 0) (by omega) rfl) (nm_r (nI_1 i) (ih (i + 1) _ (by omega) (fun j hj => ?_)))⟩
    by_cases e : j = i
    · subst e; rw [pk_us]
    · rw [pk_un e]; exact hA j (by omega)
theorem ip_x_out (C : ip_C n w rk aw ar) (U : ip_U ru au) {k : Nat} (hk : k ≤ 1501) {post : SX → Prop}
    (hp : ∀ ag' al', ip_A n ag' (ip_G n w rk ru k) → post (nI n, fp, nI (k - ip_pre n w rk 4), aw, ar, au, ag', al', ae)) : wpX_shareOut post (nI n, fp, fo, aw, ar, au, ag, al, ae) (nI k) := by
  refine ⟨n + 1, ip_x_out4 C.1 (fun ag' hA => ⟨5, ?_⟩) n 0 ag (by omega) (fun j hj => by omega)⟩
  exact ip_x_out27 C U hk (fun ag2 al2 g2 hA2 F => hp ag2 al2 (ip_A_congr hA2 (ip_G_eq C.2.2.2.2 U.2 F))) 4 0 (fun _ => 0) ag' al (by omega) hA (fun s hs => by omega) (fun _ _ _ => rfl) (fun _ _ => by omega)
end
end
section
/-! the reference: openRank, before, chosen -/
section
variable {n : Nat} {w rk ru g : Nat → Nat} {fm : Int32} {aw ar au ag : Nat → Int32}
theorem ip_y_open_l (C : ip_C n w rk aw ar) (hg : ip_A n ag g) (hle : ∀ j, j < n → g j ≤ w j) {post : Int32 → Prop}
    (hp : ∀ m, m ≤ 4 → (m < 4 → ∃ c, c < n ∧ rk c = m ∧ g c < w c) → (∀ c, c < n → g c < w c → m ≤ rk c) → post (nI m)) : ∀ d i m, i + d = n → m ≤ 4 → (m < 4 → ∃ c, c < n ∧ rk c = m ∧ g c < w c) → (∀ c, c < i → g c < w c → m ≤ rk c) →
    wY_openRank_4 post (nI n) fm aw ar au ag (d + 1) (nI m) (nI i) := by
  obtain ⟨hn, hw, hw2, hr, hr2⟩ := C
  intro d
  induction d with
  | zero =>
    intro i m hi h4 h1 h2
    have e : i = n := by omega
    subst e
    exact br_t (nI_le (Nat.le_refl _) (by omega)) (hp m h4 h1 h2)
  | succ d ih =>
    intro i m hi h4 h1 h2
    have hi' : i < n := by omega
    have hin : vp_in (nI i) 8 := ip_in8 (by omega)
    have b1 := hr2 i hi'
    have b2 := hw2 i hi'
    have b3 := hle i hi'
    refine br_f (nI_ge hi' (by omega)) (br_f (nI_ge (b := 8) (by omega) (by omega)) ⟨hin, hin, ?_⟩)
    refine pk_le (w i) (g i) (fun e => ?_) (fun e => ⟨hin, ?_⟩) (ip_rd hw hi' hn) (ip_rd hg hi' hn)
    · refine nm_r (nI_1 i) (ih (i + 1) m (by omega) h4 h1 (fun c hc hl => ?_))
      by_cases ec : c = i
      · subst ec; omega
      · exact h2 c (by omega) hl
    · refine pk_le m (rk i) (fun e2 => ?_) (fun e2 => ⟨hin, ?_⟩) rfl (ip_rd hr hi' hn)
      · refine nm_r (nI_1 i) (ih (i + 1) m (by omega) h4 h1 (fun c hc hl => ?_))
        by_cases ec : c = i
        · subst ec; exact e2
        · exact h2 c (by omega) hl
      · refine nm_r (ip_rd hr hi' hn) (nm_r (nI_1 i) (ih (i + 1) (rk i) (by omega) (by omega) (fun _ => ⟨i, hi', rfl, e⟩) (fun c hc hl => ?_)))
        by_cases ec : c = i
        · subst ec; omega
        · have := h2 c (by omega) hl
          omega
theorem ip_y_open (C : ip_C n w rk aw ar) (hg : ip_A n ag g) (hle : ∀ j, j < n → g j ≤ w j) {post : Int32 → Prop}
    (hp : ∀ m, m ≤ 4 → (m < 4 → ∃ c, c < n ∧ rk c = m ∧ g c < w c) → (∀ c, c < n → g c < w c → m ≤ rk c) → post (nI m)) : wpY_openRank post (nI n, fm, aw, ar, au, ag) :=
  ⟨n + 1, ip_y_open_l C hg hle hp n 0 4 (by omega) (by omega) (fun z => by omega) (fun c hc => by omega)⟩
theorem ip_y_before9 (hn : n ≤ 8) (hg : ip_A n ag g) (hg2 : ∀ j, j < n → g j ≤ 150) {c b : Nat} (hc : c < n) (hb : b < n) {fc : Int32} {post : Int32 → Prop} (h0 : ¬ g c < g b → post 0) (h1 : g c < g b → post 1) : wY_before_9 post (nI c) (nI b) fc fm aw ar au ag := by
  have b1 := hg2 c hc
  have b2 := hg2 b hb
  unfold wY_before_9
  exact ⟨ip_in8 (by omega), ip_in8 (by omega), pk_le (g b) (g c) (fun e => h0 (by omega)) (fun e => h1 e) (ip_rd hg hb hn) (ip_rd hg hc hn)⟩
/-- the flag of the first half -/
def ip_fl (hf : Bool) (x : Int32) : Prop := (x = 0 ∧ hf = false) ∨ (x = 1 ∧ hf = true)
theorem ip_y_before (C : ip_C n w rk aw ar) (hg : ip_A n ag g) (hle : ∀ j, j < n → g j ≤ w j) {c b r u : Nat} {hf : Bool} {x7 : Int32} (hx : ip_fl hf x7) (hu : u ≤ 3) (hc : c < n) (hb : b < n) (ec : rk c = r) (eb : rk b = r) {post : Int32 → Prop}
    (h0 : ¬ ip_cmp u hf (ip_msk rk r w) c (ip_msk rk r g c) b (ip_msk rk r g b) → post 0) (h1 : ip_cmp u hf (ip_msk rk r w) c (ip_msk rk r g c) b (ip_msk rk r g b) → post 1) : wpY_before post (nI n, fm, aw, ar, au, ag) (nI c) (nI b) (nI u) x7 := by
  obtain ⟨hn, hw, hw2, hr, hr2⟩ := C
  have ic : vp_in (nI c) 8 := ip_in8 (by omega)
  have ib : vp_in (nI b) 8 := ip_in8 (by omega)
  have wc := hw2 c hc
  have wb := hw2 b hb
  have gc := hle c hc
  have gb := hle b hb
  have hg2 : ∀ j, j < n → g j ≤ 150 := fun j hj => Nat.le_trans (hle j hj) (hw2 j hj)
  unfold wpY_before
  by_cases hh : u = 0 ∨ hf = true
  · rw [ip_cmp_eq hh, ip_msk_s ec, ip_msk_s eb] at h0 h1
    have K : wY_before_9 post (nI c) (nI b) (nI n) fm aw ar au ag := ip_y_before9 hn hg hg2 hc hb h0 h1
    refine br_c (fun _ => K) (fun z => ?_)
    rcases hx with ⟨e1, e2⟩ | ⟨e1, e2⟩
    · rcases hh with e3 | e3
      · subst e3; exact absurd rfl z
      · rw [e2] at e3; exact absurd e3 (by decide)
    · subst e1
      exact br_f (by decide) K
  · have hu0 : 0 < u := by
      by_cases z : u = 0
      · exact absurd (Or.inl z) hh
      · omega
    have hx0 : x7 = 0 := by
      rcases hx with ⟨e1, e2⟩ | ⟨e1, e2⟩
      · exact e1
      · exact absurd (Or.inr e2) hh
    refine br_f (nI_ne0 hu0 (by omega)) (br_t hx0 (pk_eq u 2 (fun e => ⟨ic, ib, ib, ic, ?_⟩) (fun e => ⟨ic, ic, ib, ib, ?_⟩) rfl rfl))
    · rw [ip_cmp_sh hh e] at h0 h1
      unfold ip_SH at h0 h1
      rw [ip_msk_s ec, ip_msk_s eb, ip_msk_s ec, ip_msk_s eb] at h0 h1
      have m1 : w c * (g b + 1) ≤ 150 * 151 := ip_mul_b wc (by omega)
      have m2 : w b * (g c + 1) ≤ 150 * 151 := ip_mul_b wb (by omega)
      refine pk_le (w c * (g b + 1)) (w b * (g c + 1)) (fun e => h0 (by omega)) (fun e => h1 e) ?_ ?_
      · rw [ip_rd hw hc hn, ip_rd hg hb hn, nI_1, pk_mul]
      · rw [ip_rd hw hb hn, ip_rd hg hc hn, nI_1, pk_mul]
    · rw [ip_cmp_lo hh e] at h0 h1
      unfold ip_LO at h0 h1
      rw [ip_msk_s ec, ip_msk_s eb, ip_msk_s ec, ip_msk_s eb] at h0 h1
      refine pk_le (w c - g c) (w b - g b) (fun e => h0 (by omega)) (fun e => h1 e) ?_ ?_
      · rw [ip_rd hw hc hn, ip_rd hg hc hn, pk_sub gc]
      · rw [ip_rd hw hb hn, ip_rd hg hb hn, pk_sub gb]
theorem ip_y_201n {x3 x4 x7 x8 fc : Int32} {i : Nat} {post : Int32 → Prop} {J : Int32 → Int32 → Prop} (hJ : J x8 (nI (i + 1))) : wY_chosen_201 post J x3 x4 x7 x8 (nI i) 0 fc fm aw ar au ag := by
  unfold wY_chosen_201 wY_chosen_218
  exact br_t rfl (br_t rfl (nm_r (nI_1 i) hJ))
theorem ip_y_201 (C : ip_C n w rk aw ar) (hg : ip_A n ag g) (hle : ∀ j, j < n → g j ≤ w j) {r u i : Nat} {hf : Bool} {x3 x7 x8 : Int32} (hx : ip_fl hf x7) (hu : u ≤ 3) (hi : i < n) {post : Int32 → Prop} {J : Int32 → Int32 → Prop}
    (S : ip_St (ip_cmp u hf (ip_msk rk r w)) (ip_cand hf (ip_msk rk r w) (ip_msk rk r g)) (ip_msk rk r g) i x8) (ei : rk i = r) (hcd : ip_cand hf (ip_msk rk r w) (ip_msk rk r g) i)
    (hJ : ∀ x, ip_St (ip_cmp u hf (ip_msk rk r w)) (ip_cand hf (ip_msk rk r w) (ip_msk rk r g)) (ip_msk rk r g) (i + 1) x → J x (nI (i + 1))) : wY_chosen_201 post J x3 (nI u) x7 x8 (nI i) 1 (nI n) fm aw ar au ag := by
  have hn := C.1
  unfold wY_chosen_201
  refine br_f (by decide) ?_
  rcases S with ⟨ex, H⟩ | ⟨b, ex, B⟩
  · subst ex
    exact br_f (by decide) (nm_r (nI_1 i) (hJ (nI i) (Or.inr ⟨i, rfl, ip_Bb_new H hcd⟩)))
  · subst ex
    have hb := B.1
    have hrb : rk b = r := by
      by_cases z : rk b = r
      · exact z
      · have h3 : ip_msk rk r g b < ip_msk rk r w b := B.2.1.1
        rw [ip_msk_n z, ip_msk_n z] at h3
        omega
    refine br_t (nI_pos' (by omega)) ?_
    unfold wY_chosen_218
    refine br_f (by decide) (ip_y_before C hg hle hx hu hi (by omega) ei hrb (fun z => ?_) (fun z => ?_))
    · exact br_t rfl (nm_r (nI_1 i) (hJ (nI b) (Or.inr ⟨b, rfl, ip_Bb_keep B z⟩)))
    · exact br_f (by decide) (nm_r (nI_1 i) (hJ (nI i) (Or.inr ⟨i, rfl, ip_Bb_take (ip_O_cmp _ _ _) B hcd z⟩)))
theorem ip_y_171 (C : ip_C n w rk aw ar) (hg : ip_A n ag g) (hle : ∀ j, j < n → g j ≤ w j) {i : Nat} {hf : Bool} {x3 x4 x7 x8 : Int32} (hx : ip_fl hf x7) (hi : i < n) {post : Int32 → Prop} {J : Int32 → Int32 → Prop} (hJ : J x8 (nI (i + 1))) : wY_chosen_171 post J x3 x4 x7 x8 (nI i) (nI n) fm aw ar au ag := by
  obtain ⟨hn, hw, hw2, hr, hr2⟩ := C
  have hin : vp_in (nI i) 8 := ip_in8 (by omega)
  unfold wY_chosen_171 wY_chosen_172
  exact br_c (fun _ => ip_y_201n hJ) (fun _ => ⟨hin, hin, br_c (fun _ => ip_y_201n hJ) (fun _ => ip_y_201n hJ)⟩)
theorem ip_y_123 (C : ip_C n w rk aw ar) (hg : ip_A n ag g) (hle : ∀ j, j < n → g j ≤ w j) {r u : Nat} {hf : Bool} {x7 : Int32} (hx : ip_fl hf x7) (h4 : r < 4) (hu : u ≤ 3) {post : Int32 → Prop}
    (hp : ∀ x, ip_St (ip_cmp u hf (ip_msk rk r w)) (ip_cand hf (ip_msk rk r w) (ip_msk rk r g)) (ip_msk rk r g) n x → post x) : ∀ d i x8, i + d = n →
    ip_St (ip_cmp u hf (ip_msk rk r w)) (ip_cand hf (ip_msk rk r w) (ip_msk rk r g)) (ip_msk rk r g) i x8 → wY_chosen_123 post (nI r) (nI u) x7 (nI n) fm aw ar au ag (d + 1) x8 (nI i) := by
  have C' := C
  obtain ⟨hn, hw, hw2, hr, hr2⟩ := C'
  intro d
  induction d with
  | zero =>
    intro i x8 hi S
    have e : i = n := by omega
    subst e
    exact br_t (nI_le (Nat.le_refl _) (by omega)) (hp x8 S)
  | succ d ih =>
    intro i x8 hi S
    have hi' : i < n := by omega
    have hin : vp_in (nI i) 8 := ip_in8 (by omega)
    have b1 := hr2 i hi'
    have b2 := hw2 i hi'
    have b3 := hle i hi'
    have K : ∀ x, ip_St (ip_cmp u hf (ip_msk rk r w)) (ip_cand hf (ip_msk rk r w) (ip_msk rk r g)) (ip_msk rk r g) (i + 1) x → wY_chosen_123 post (nI r) (nI u) x7 (nI n) fm aw ar au ag (d + 1) x (nI (i + 1)) := fun x S' => ih (i + 1) x (by omega) S'
    refine br_f (nI_ge hi' (by omega)) (br_f (nI_ge (b := 8) (by omega) (by omega)) ⟨hin, ?_⟩)
    refine pk_eq (rk i) r (fun e => ⟨hin, hin, ?_⟩) (fun e => ?_) (ip_rd hr hi' hn) rfl
    · refine pk_le (w i) (g i) (fun e2 => ?_) (fun e2 => ?_) (ip_rd hw hi' hn) (ip_rd hg hi' hn)
      · refine ip_y_171 C hg hle hx hi' (K x8 (ip_St_skip S (fun z => ?_)))
        have h3 := z.1
        rw [ip_msk_s e, ip_msk_s e] at h3
        omega
      · unfold wY_chosen_172
        rcases hx with ⟨e3, e4⟩ | ⟨e3, e4⟩
        · refine br_t e3 (ip_y_201 C hg hle (Or.inl ⟨e3, e4⟩) hu hi' S e ⟨?_, fun z => ?_⟩ K)
          · rw [ip_msk_s e, ip_msk_s e]; exact e2
          · rw [e4] at z; exact absurd z (by decide)
        · subst e3
          refine br_f (by decide) ⟨hin, hin, pk_lt (2 * g i) (w i) (fun e5 => ?_) (fun e5 => ?_) ?_ (ip_rd hw hi' hn)⟩
          · refine ip_y_201 C hg hle (Or.inr ⟨rfl, e4⟩) hu hi' S e ⟨?_, fun z => ?_⟩ K
            · rw [ip_msk_s e, ip_msk_s e]; exact e2
            · rw [ip_msk_s e, ip_msk_s e]; exact e5
          · refine ip_y_201n (K x8 (ip_St_skip S (fun z => ?_)))
            have h3 := z.2 e4
            rw [ip_msk_s e, ip_msk_s e] at h3
            omega
          · rw [ip_rd hg hi' hn]; exact pk_mul 2 (g i)
    · refine ip_y_171 C hg hle hx hi' (K x8 (ip_St_skip S (fun z => ?_)))
      have h3 := z.1
      rw [ip_msk_n e, ip_msk_n e] at h3
      omega
theorem ip_y_38 (C : ip_C n w rk aw ar) (hg : ip_A n ag g) {r : Nat} {x4 : Int32} (h4 : r < 4) {post : Int32 → Prop}
    (hp : wY_chosen_95 post (nI r) x4 (nI (ip_tot n w rk r)) (nI (ip_sum (ip_msk rk r g) n)) (nI n) fm aw ar au ag) : ∀ d i, i + d = n →
    wY_chosen_38 post (nI r) x4 (nI n) fm aw ar au ag (d + 1) (nI (ip_sum (ip_msk rk r w) i)) (nI (ip_sum (ip_msk rk r g) i)) (nI i) := by
  obtain ⟨hn, hw, hw2, hr, hr2⟩ := C
  intro d
  induction d with
  | zero =>
    intro i hi
    have e : i = n := by omega
    subst e
    exact br_t (nI_le (Nat.le_refl _) (by omega)) hp
  | succ d ih =>
    intro i hi
    have hi' : i < n := by omega
    have hin : vp_in (nI i) 8 := ip_in8 (by omega)
    have b1 := hr2 i hi'
    refine br_f (nI_ge hi' (by omega)) (br_f (nI_ge (b := 8) (by omega) (by omega)) ⟨hin, ?_⟩)
    refine pk_eq (rk i) r (fun e => ⟨hin, ?_⟩) (fun e => ?_) (ip_rd hr hi' hn) rfl
    · refine nm_r (e' := nI (ip_sum (ip_msk rk r w) (i + 1))) ?_ ⟨hin, nm_r (e' := nI (ip_sum (ip_msk rk r g) (i + 1))) ?_ (nm_r (nI_1 i) (ih (i + 1) (by omega)))⟩
      · rw [ip_rd hw hi' hn, nI_add, ip_sum_s, ip_msk_s e]
      · rw [ip_rd hg hi' hn, nI_add, ip_sum_s, ip_msk_s e]
    · have h1 := ih (i + 1) (by omega)
      rw [ip_sum_s, ip_sum_s, ip_msk_n e, ip_msk_n e] at h1
      exact nm_r (nI_1 i) h1
theorem ip_y_95 (C : ip_C n w rk aw ar) (hg : ip_A n ag g) (hle : ∀ j, j < n → g j ≤ w j) {r u : Nat} (h4 : r < 4) (hu : u ≤ 3) {post : Int32 → Prop}
    (hp : ∀ hf : Bool, (hf = true ↔ u = 3 ∧ 2 * ip_sum (ip_msk rk r g) n < ip_tot n w rk r) → ∀ x, ip_St (ip_cmp u hf (ip_msk rk r w)) (ip_cand hf (ip_msk rk r w) (ip_msk rk r g)) (ip_msk rk r g) n x → post x) :
    wY_chosen_95 post (nI r) (nI u) (nI (ip_tot n w rk r)) (nI (ip_sum (ip_msk rk r g) n)) (nI n) fm aw ar au ag := by
  have hn := C.1
  have hw2 := C.2.2.1
  have hT : ip_tot n w rk r ≤ 8 * 150 := ip_big 150 hn (Nat.le_refl n) (ip_msk_150 hw2)
  have hP : ip_sum (ip_msk rk r g) n ≤ 8 * 150 := ip_big 150 hn (Nat.le_refl n) (ip_msk_150 (fun j hj => Nat.le_trans (hle j hj) (hw2 j hj)))
  unfold wY_chosen_95
  refine pk_eq u 3 (fun e => pk_le (ip_tot n w rk r) (2 * ip_sum (ip_msk rk r g) n) (fun e2 => ?_) (fun e2 => ?_) rfl (pk_mul 2 _)) (fun e => ?_) rfl rfl
  · exact ⟨n + 1, ip_y_123 (hf := false) C hg hle (Or.inl ⟨rfl, rfl⟩) h4 hu (hp false ⟨fun z => absurd z (by decide), fun z => by omega⟩) n 0 (-1) (by omega) ip_St_0⟩
  · exact ⟨n + 1, ip_y_123 (hf := true) C hg hle (Or.inr ⟨rfl, rfl⟩) h4 hu (hp true ⟨fun _ => ⟨e, e2⟩, fun _ => rfl⟩) n 0 (-1) (by omega) ip_St_0⟩
  · exact ⟨n + 1, ip_y_123 (hf := false) C hg hle (Or.inl ⟨rfl, rfl⟩) h4 hu (hp false ⟨fun z => absurd z (by decide), fun z => absurd z.1 e⟩) n 0 (-1) (by omega) ip_St_0⟩
/-- the rules as the reference reads them: one rank may have another -/
def ip_V (ru : Nat → Nat) (au : Nat → Int32) (sp ot : Int32) : Prop :=
  (∀ r, r < 4 → ru r ≤ 3) ∧ ∀ r, r < 4 → (nI r = sp → ot = nI (ru r)) ∧ (¬ nI r = sp → au r = nI (ru r))
theorem ip_y_chosen (C : ip_C n w rk aw ar) {sp ot : Int32} (V : ip_V ru au sp ot) (hg : ip_A n ag g) {k : Nat} (hG : ∀ c, c < n → g c = ip_G n w rk ru k c) {post : Int32 → Prop}
    (hb : ∀ b, b < n → k < ip_pre n w rk 4 → (∀ c, c < n → ip_inc g b c = ip_G n w rk ru (k + 1) c) → post (nI b))
    (hno : ip_pre n w rk 4 ≤ k → (∀ c, c < n → g c = ip_G n w rk ru (k + 1) c) → post (-1)) : wpY_chosen post (nI n, fm, aw, ar, au, ag) sp ot := by
  have hn := C.1
  have hr2 := C.2.2.2.2
  have hle : ∀ j, j < n → g j ≤ w j := fun j hj => by rw [hG j hj]; exact ip_G_le hr2 V.1 k j hj
  unfold wpY_chosen
  refine ip_y_open C hg hle (fun m hm h1 h2 => pk_le m 3 (fun e => ?_) (fun e => ?_) rfl rfl)
  · have h4 : m < 4 := by omega
    have O : ip_Open n w rk g m := ⟨h4, h1 h4, h2⟩
    have K : ∃ n38, wY_chosen_38 post (nI m) (nI (ru m)) (nI n) fm aw ar au ag n38 0 0 0 := by
      refine ⟨n + 1, ip_y_38 C hg h4 (ip_y_95 C hg hle h4 (V.1 m h4) (fun hf hh x S => ?_)) n 0 (by omega)⟩
      rcases S with ⟨_, H⟩ | ⟨b, ex, B⟩
      · obtain ⟨c, hc, hcd⟩ := ip_G_cand hr2 V.1 hG O hh
        exact absurd hcd (H c hc)
      · subst ex
        obtain ⟨h5, h6⟩ := ip_G_step hr2 V.1 hG O hh B
        exact hb b B.1 h5 h6
    refine br_c (fun z => ?_) (fun z => ⟨vp_in_nI h4 (by omega), nm_r (e' := nI (ru m)) ?_ K⟩)
    · rw [(V.2 m h4).1 z]; exact K
    · rw [nI_clamp (by omega)]; exact (V.2 m h4).2 z
  · have hf : ∀ c, c < n → ¬ g c < w c := fun c hc hl => by
      have h3 := h2 c hc hl
      have h5 := hr2 c hc
      omega
    obtain ⟨h5, h6⟩ := ip_G_stay hr2 V.1 hG hf
    exact hno h5 h6
end
end
section
/-! the reference's hand; loops behind a sharing on either side -/
section
variable {n : Nat} {w rk ru g : Nat → Nat} {fm fp fo : Int32} {aw ar au ag al ae bg : Nat → Int32}
theorem ip_A_inc {b : Nat} {f f' : Nat → Nat} (hn : n ≤ 8) (hb : b < n) (h : ip_A n bg f) (e : ∀ c, c < n → ip_inc f b c = f' c) : ip_A n (upd bg b (nI (f b + 1))) f' := by
  intro j hj
  rw [← e j hj]
  by_cases ej : j = b
  · subst ej; rw [pk_us, ip_inc_s]
  · rw [pk_un ej, ip_inc_n ej]; exact h j hj
theorem ip_y_hand30 (C : ip_C n w rk aw ar) {sp ot : Int32} (V : ip_V ru au sp ot) {K : Nat} (hK : K ≤ 1501) {post : Int32 → SY → Prop}
    (hp : ∀ bg', ip_A n bg' (ip_G n w rk ru K) → post (nI (K - ip_pre n w rk 4)) (nI n, fm, aw, ar, au, bg')) : ∀ d i bg, i + d = K → ip_A n bg (ip_G n w rk ru i) →
    wY_hand_30 post (nI K) sp ot (nI n) fm (d + 1) (nI (i - ip_pre n w rk 4)) (nI i) aw ar au bg := by
  have hn := C.1
  intro d
  induction d with
  | zero =>
    intro i bg hi hA
    have e : i = K := by omega
    subst e
    exact br_t (nI_le (Nat.le_refl _) (by omega)) (hp bg hA)
  | succ d ih =>
    intro i bg hi hA
    refine br_f (nI_ge (by omega) (by omega)) (ip_y_chosen C V hA (fun _ _ => rfl) (fun b hb hk hG => ?_) (fun hk hG => ?_))
    · have hib : vp_in (nI b) 8 := ip_in8 (by omega)
      refine br_t (nI_pos' (by omega)) ⟨hib, hib, nm_r (ip_up (y := nI (ip_G n w rk ru i b + 1)) (by omega) ?_) (nm_r (nI_1 i) ?_)⟩
      · rw [ip_rd hA hb hn, nI_1]
      · have h1 := ih (i + 1) _ (by omega) (ip_A_inc hn hb hA hG)
        rw [show i + 1 - ip_pre n w rk 4 = i - ip_pre n w rk 4 by omega] at h1
        exact h1
    · refine br_f (by decide) (nm_r (nI_1 _) (nm_r (nI_1 i) ?_))
      have h1 := ih (i + 1) bg (by omega) (ip_A_congr hA hG)
      rw [show i + 1 - ip_pre n w rk 4 = i - ip_pre n w rk 4 + 1 by omega] at h1
      exact h1
theorem ip_y_hand3 {x1 sp ot fc : Int32} {post : Int32 → SY → Prop}
    (hp : ∀ bg', ip_A 8 bg' (fun _ => 0) → ∃ n30, wY_hand_30 post x1 sp ot fc fm n30 0 0 aw ar au bg') : ∀ d i bg, i + d = 8 → ip_A i bg (fun _ => 0) →
    wY_hand_3 post x1 sp ot fc fm (d + 1) (nI i) aw ar au bg := by
  intro d
  induction d with
  | zero =>
    intro i bg hi hA
    have e : i = 8 := by omega
    subst e
    exact br_t (nI_le (a := 8) (b := 8) (Nat.le_refl _) (by omega)) (hp bg hA)
  | succ d ih =>
    intro i bg hi hA
    refine br_f (nI_ge (b := 8) (by omega) (by omega)) ⟨ip_in8 (by omega), nm_r (ip_up (y := nI 0) (by omega) rfl) (nm_r (nI_1 i) (ih (i + 1) _ (by omega) (fun j hj => ?_)))⟩
    by_cases e : j = i
    · subst e; rw [pk_us]
    · rw [pk_un e]; exact hA j (by omega)
theorem ip_y_hand (C : ip_C n w rk aw ar) {sp ot : Int32} (V : ip_V ru au sp ot) {K : Nat} (hK : K ≤ 1501) {post : Int32 → SY → Prop}
    (hp : ∀ bg', ip_A n bg' (ip_G n w rk ru K) → post (nI (K - ip_pre n w rk 4)) (nI n, fm, aw, ar, au, bg')) : wpY_hand post (nI n, fm, aw, ar, au, bg) (nI K) sp ot := by
  refine ⟨9, ip_y_hand3 (fun bg' hA => ⟨K + 1, ?_⟩) 8 0 bg (by omega) (fun j hj => by omega)⟩
  have hn := C.1
  have h1 := ip_y_hand30 (fm := fm) C V hK hp K 0 bg' (by omega) (fun j hj => by rw [hA j (by omega), ip_G_0 C.2.2.2.2 V.1 j hj])
  rw [Nat.zero_sub] at h1
  exact h1
/-! sums behind a sharing -/
theorem ip_x_paid_l (C : ip_C n w rk aw ar) (hg : ip_A n ag g) {r : Nat} (h4 : r < 4) {post : Int32 → SX → Prop} (hp : post (nI (ip_sum (ip_msk rk r g) n)) (nI n, fp, fo, aw, ar, au, ag, al, ae)) : ∀ d i, i + d = n → wX_paid_21 post (nI r) (nI n) fp fo aw ar au ag al ae (d + 1) (nI (ip_sum (ip_msk rk r g) i)) (nI i) := by
  obtain ⟨hn, hw, hw2, hr, hr2⟩ := C
  intro d
  induction d with
  | zero =>
    intro i hi
    have e : i = n := by omega
    subst e
    exact br_t (nI_le (Nat.le_refl _) (by omega)) hp
  | succ d ih =>
    intro i hi
    have hi' : i < n := by omega
    have hin : vp_in (nI i) 8 := ip_in8 (by omega)
    have hb := hr2 i hi'
    refine br_f (nI_ge hi' (by omega)) ⟨hin, ?_⟩
    refine pk_eq (rk i) r (fun e => ⟨hin, ?_⟩) (fun e => ?_) (ip_rd hr hi' hn) rfl
    · refine nm_r (e' := nI (ip_sum (ip_msk rk r g) (i + 1))) ?_ (nm_r (nI_1 i) (ih (i + 1) (by omega)))
      rw [ip_rd hg hi' hn, nI_add, ip_sum_s, ip_msk_s e]
    · refine nm_r (e' := nI (ip_sum (ip_msk rk r g) (i + 1))) ?_ (nm_r (nI_1 i) (ih (i + 1) (by omega)))
      rw [Int32.add_zero, ip_sum_s, ip_msk_n e]; rfl
theorem ip_y_paid_l (C : ip_C n w rk aw ar) (hg : ip_A n bg g) {r : Nat} (h4 : r < 4) {post : Int32 → SY → Prop} (hp : post (nI (ip_sum (ip_msk rk r g) n)) (nI n, fm, aw, ar, au, bg)) : ∀ d i, i + d = n → wY_paid_25 post (nI r) (nI n) fm aw ar au bg (d + 1) (nI (ip_sum (ip_msk rk r g) i)) (nI i) := by
  obtain ⟨hn, hw, hw2, hr, hr2⟩ := C
  intro d
  induction d with
  | zero =>
    intro i hi
    have e : i = n := by omega
    subst e
    exact br_t (nI_le (Nat.le_refl _) (by omega)) hp
  | succ d ih =>
    intro i hi
    have hi' : i < n := by omega
    have hin : vp_in (nI i) 8 := ip_in8 (by omega)
    have hb := hr2 i hi'
    refine br_f (nI_ge hi' (by omega)) ⟨hin, ?_⟩
    refine pk_eq (rk i) r (fun e => ⟨hin, ?_⟩) (fun e => ?_) (ip_rd hr hi' hn) rfl
    · refine nm_r (e' := nI (ip_sum (ip_msk rk r g) (i + 1))) ?_ (nm_r (nI_1 i) (ih (i + 1) (by omega)))
      rw [ip_rd hg hi' hn, nI_add, ip_sum_s, ip_msk_s e]
    · have h1 := ih (i + 1) (by omega)
      rw [ip_sum_s, ip_msk_n e] at h1
      exact nm_r (nI_1 i) h1
theorem ip_y_claims_l (C : ip_C n w rk aw ar) {r : Nat} (h4 : r < 4) {post : Int32 → Prop} (hp : post (nI (ip_tot n w rk r))) : ∀ d i, i + d = n → wY_claims_14 post (nI r) (nI n) fm aw ar au bg (d + 1) (nI (ip_sum (ip_msk rk r w) i)) (nI i) := by
  obtain ⟨hn, hw, hw2, hr, hr2⟩ := C
  intro d
  induction d with
  | zero =>
    intro i hi
    have e : i = n := by omega
    subst e
    exact br_t (nI_le (Nat.le_refl _) (by omega)) hp
  | succ d ih =>
    intro i hi
    have hi' : i < n := by omega
    have hin : vp_in (nI i) 8 := ip_in8 (by omega)
    have hb := hr2 i hi'
    refine br_f (nI_ge hi' (by omega)) ⟨hin, ?_⟩
    refine pk_eq (rk i) r (fun e => ⟨hin, ?_⟩) (fun e => ?_) (ip_rd hr hi' hn) rfl
    · refine nm_r (e' := nI (ip_sum (ip_msk rk r w) (i + 1))) ?_ (nm_r (nI_1 i) (ih (i + 1) (by omega)))
      rw [ip_rd hw hi' hn, nI_add, ip_sum_s, ip_msk_s e]
    · have h1 := ih (i + 1) (by omega)
      rw [ip_sum_s, ip_msk_n e] at h1
      exact nm_r (nI_1 i) h1
/-! counting those not paid in full -/
def ip_np (w g : Nat → Nat) : Nat → Nat := fun c => if g c < w c then 1 else 0
theorem ip_np_1 {c : Nat} (h : g c < w c) : ip_np w g c = 1 := if_pos h
theorem ip_np_0 {c : Nat} (h : w c ≤ g c) : ip_np w g c = 0 := if_neg (by omega)
theorem ip_x_unpaid_l (C : ip_C n w rk aw ar) (hg : ip_A n ag g) (hle : ∀ j, j < n → g j ≤ w j) {post : Int32 → SX → Prop} (hp : post (nI (ip_sum (ip_np w g) n)) (nI n, fp, fo, aw, ar, au, ag, al, ae)) : ∀ d i, i + d = n → wX_unpaid_12 post (nI n) fp fo aw ar au ag al ae (d + 1) (nI (ip_sum (ip_np w g) i)) (nI i) := by
  obtain ⟨hn, hw, hw2, hr, hr2⟩ := C
  intro d
  induction d with
  | zero =>
    intro i hi
    have e : i = n := by omega
    subst e
    exact br_t (nI_le (Nat.le_refl _) (by omega)) hp
  | succ d ih =>
    intro i hi
    have hi' : i < n := by omega
    have hin : vp_in (nI i) 8 := ip_in8 (by omega)
    have hb := hw2 i hi'
    have hb2 := hle i hi'
    refine br_f (nI_ge hi' (by omega)) ⟨hin, hin, ?_⟩
    refine pk_le (w i) (g i) (fun e => ?_) (fun e => ?_) (ip_rd hw hi' hn) (ip_rd hg hi' hn)
    · refine nm_r (e' := nI (ip_sum (ip_np w g) (i + 1))) ?_ (nm_r (nI_1 i) (ih (i + 1) (by omega)))
      rw [Int32.add_zero, ip_sum_s, ip_np_0 e]; rfl
    · refine nm_r (e' := nI (ip_sum (ip_np w g) (i + 1))) ?_ (nm_r (nI_1 i) (ih (i + 1) (by omega)))
      rw [nI_1, ip_sum_s, ip_np_1 e]
theorem ip_y_unpaid_l (C : ip_C n w rk aw ar) (hg : ip_A n bg g) (hle : ∀ j, j < n → g j ≤ w j) {post : Int32 → SY → Prop} (hp : post (nI (ip_sum (ip_np w g) n)) (nI n, fm, aw, ar, au, bg)) : ∀ d i, i + d = n → wY_unpaid_15 post (nI n) fm aw ar au bg (d + 1) (nI (ip_sum (ip_np w g) i)) (nI i) := by
  obtain ⟨hn, hw, hw2, hr, hr2⟩ := C
  intro d
  induction d with
  | zero =>
    intro i hi
    have e : i = n := by omega
    subst e
    exact br_t (nI_le (Nat.le_refl _) (by omega)) hp
  | succ d ih =>
    intro i hi
    have hi' : i < n := by omega
    have hin : vp_in (nI i) 8 := ip_in8 (by omega)
    have hb := hw2 i hi'
    have hb2 := hle i hi'
    refine br_f (nI_ge hi' (by omega)) ⟨hin, hin, ?_⟩
    refine pk_le (w i) (g i) (fun e => ?_) (fun e => ?_) (ip_rd hw hi' hn) (ip_rd hg hi' hn)
    · have h1 := ih (i + 1) (by omega)
      rw [ip_sum_s, ip_np_0 e] at h1
      exact nm_r (nI_1 i) h1
    · refine nm_r (e' := nI (ip_sum (ip_np w g) (i + 1))) ?_ (nm_r (nI_1 i) (ih (i + 1) (by omega)))
      rw [nI_1, ip_sum_s, ip_np_1 e]
/-! the worst off -/
def ip_mx (f : Nat → Nat) : Nat → Nat
  | 0 => 0
  | n + 1 => if f n ≤ ip_mx f n then ip_mx f n else f n
theorem ip_mx_le {f : Nat → Nat} {i : Nat} (h : f i ≤ ip_mx f i) : ip_mx f (i + 1) = ip_mx f i := if_pos h
theorem ip_mx_gt {f : Nat → Nat} {i : Nat} (h : ip_mx f i < f i) : ip_mx f (i + 1) = f i := if_neg (by omega)
theorem ip_mx_ub {f : Nat → Nat} (B : Nat) : ∀ n, (∀ j, j < n → f j ≤ B) → ip_mx f n ≤ B := by
  intro n
  induction n with
  | zero => intro _; exact Nat.zero_le _
  | succ n ih =>
    intro h
    have h1 := ih (fun j hj => h j (by omega))
    have h2 := h n (by omega)
    by_cases e : f n ≤ ip_mx f n
    · rw [ip_mx_le e]; exact h1
    · rw [ip_mx_gt (by omega)]; exact h2
theorem ip_x_worst_l (C : ip_C n w rk aw ar) (hg : ip_A n ag g) (hle : ∀ j, j < n → g j ≤ w j) {post : Int32 → SX → Prop} (hp : post (nI (ip_mx (ip_sb w g) n)) (nI n, fp, fo, aw, ar, au, ag, al, ae)) : ∀ d i, i + d = n → wX_worst_12 post (nI n) fp fo aw ar au ag al ae (d + 1) (nI (ip_mx (ip_sb w g) i)) (nI i) := by
  obtain ⟨hn, hw, hw2, hr, hr2⟩ := C
  intro d
  induction d with
  | zero =>
    intro i hi
    have e : i = n := by omega
    subst e
    exact br_t (nI_le (Nat.le_refl _) (by omega)) hp
  | succ d ih =>
    intro i hi
    have hi' : i < n := by omega
    have hin : vp_in (nI i) 8 := ip_in8 (by omega)
    have hb := hw2 i hi'
    have hb2 := hle i hi'
    have hb3 : ip_mx (ip_sb w g) i ≤ 150 := ip_mx_ub 150 i (fun j hj => Nat.le_trans (Nat.sub_le _ _) (hw2 j (by omega)))
    have hb4 : ip_sb w g i ≤ 150 := Nat.le_trans (Nat.sub_le _ _) hb
    refine br_f (nI_ge hi' (by omega)) ⟨hin, hin, nm_r (e' := nI (ip_sb w g i)) ?_ (pk_le (ip_sb w g i) (ip_mx (ip_sb w g) i) (fun e => ?_) (fun e => ?_) rfl rfl)⟩
    · rw [ip_rd hw hi' hn, ip_rd hg hi' hn, pk_sub hb2]; rfl
    · have h1 := ih (i + 1) (by omega)
      rw [ip_mx_le e] at h1
      exact nm_r (nI_1 i) h1
    · have h1 := ih (i + 1) (by omega)
      rw [ip_mx_gt e] at h1
      exact nm_r (nI_1 i) h1
theorem ip_y_worst_l (C : ip_C n w rk aw ar) (hg : ip_A n bg g) (hle : ∀ j, j < n → g j ≤ w j) {post : Int32 → SY → Prop} (hp : post (nI (ip_mx (ip_sb w g) n)) (nI n, fm, aw, ar, au, bg)) : ∀ d i, i + d = n → wY_worst_15 post (nI n) fm aw ar au bg (d + 1) (nI (ip_mx (ip_sb w g) i)) (nI i) := by
  obtain ⟨hn, hw, hw2, hr, hr2⟩ := C
  intro d
  induction d with
  | zero =>
    intro i hi
    have e : i = n := by omega
    subst e
    exact br_t (nI_le (Nat.le_refl _) (by omega)) hp
  | succ d ih =>
    intro i hi
    have hi' : i < n := by omega
    have hin : vp_in (nI i) 8 := ip_in8 (by omega)
    have hb := hw2 i hi'
    have hb2 := hle i hi'
    have hb3 : ip_mx (ip_sb w g) i ≤ 150 := ip_mx_ub 150 i (fun j hj => Nat.le_trans (Nat.sub_le _ _) (hw2 j (by omega)))
    have hb4 : ip_sb w g i ≤ 150 := Nat.le_trans (Nat.sub_le _ _) hb
    have hv : aw (nI i).toNatClampNeg - bg (nI i).toNatClampNeg = nI (ip_sb w g i) := by
      rw [ip_rd hw hi' hn, ip_rd hg hi' hn, pk_sub hb2]; rfl
    refine br_f (nI_ge hi' (by omega)) ⟨hin, hin, pk_le (ip_sb w g i) (ip_mx (ip_sb w g) i) (fun e => ?_) (fun e => ⟨hin, hin, nm_r hv ?_⟩) hv rfl⟩
    · have h1 := ih (i + 1) (by omega)
      rw [ip_mx_le e] at h1
      exact nm_r (nI_1 i) h1
    · have h1 := ih (i + 1) (by omega)
      rw [ip_mx_gt e] at h1
      exact nm_r (nI_1 i) h1
end
end
section
/-! next and leastEstate: their loops -/
theorem ip_G_one {n k : Nat} {w rk ru : Nat → Nat} (hr : ∀ c, c < n → rk c < 4) (hu : ∀ r, r < 4 → ru r ≤ 3) : (∀ c, c < n → ip_G n w rk ru k c = ip_G n w rk ru (k + 1) c) ∨ ∃ b, b < n ∧ ∀ c, c < n → ip_inc (ip_G n w rk ru k) b c = ip_G n w rk ru (k + 1) c := by
  have F := ip_G_Fin (w := w) hr hu k
  by_cases h : ∀ c, c < n → ¬ ip_G n w rk ru k c < w c
  · exact Or.inl (ip_G_stay hr hu (fun _ _ => rfl) h).2
  · obtain ⟨r, O⟩ := ip_Open_ex hr h
    have hh : decide (ru r = 3 ∧ 2 * ip_sum (ip_msk rk r (ip_G n w rk ru k)) n < ip_tot n w rk r) = true ↔ ru r = 3 ∧ 2 * ip_sum (ip_msk rk r (ip_G n w rk ru k)) n < ip_tot n w rk r := decide_eq_true_iff
    generalize decide (ru r = 3 ∧ 2 * ip_sum (ip_msk rk r (ip_G n w rk ru k)) n < ip_tot n w rk r) = hf at hh
    obtain ⟨c, hc, hcd⟩ := ip_G_cand hr hu (fun _ _ => rfl) O hh
    rcases ip_Bb_ex (ip_O_cmp (ru r) hf (ip_msk rk r w)) (cand := ip_cand hf (ip_msk rk r w) (ip_msk rk r (ip_G n w rk ru k))) (h := ip_msk rk r (ip_G n w rk ru k)) n with B | ⟨b, B⟩
    · exact absurd hcd (B c hc)
    · exact Or.inr ⟨b, B.1, (ip_G_step hr hu (fun _ _ => rfl) O hh B).2⟩
section
variable {n : Nat} {w rk ru g : Nat → Nat} {fm fp fo : Int32} {aw ar au ag al ae bg : Nat → Int32}
theorem ip_x_next48 (hn : n ≤ 8) {g1 : Nat → Nat} (hg : ip_A n ag g1) (he : ip_A n ae g) (hb1 : ∀ j, j < n → g j ≤ 150) (hb2 : ∀ j, j < n → g1 j ≤ 150) {x : Int32} {post : Int32 → SX → Prop}
    (hx : (x = -1 ∧ ∀ c, c < n → g c = g1 c) ∨ ∃ b, b < n ∧ x = nI b ∧ ∀ c, c < n → ip_inc g b c = g1 c)
    (hp : post x (nI n, fp, fo, aw, ar, au, ag, al, ae)) : ∀ d i, i + d = n → (∀ b, x = nI b → b < n → i ≤ b) → wX_next_48 post (nI n) fp fo aw ar au ag al ae (d + 1) (nI i) := by
  intro d
  induction d with
  | zero =>
    intro i hi hb
    have e : i = n := by omega
    subst e
    refine br_t (nI_le (Nat.le_refl _) (by omega)) ?_
    rcases hx with ⟨e, _⟩ | ⟨b, hbn, e, _⟩
    · rw [← e]; exact hp
    · have := hb b e hbn
      omega
  | succ d ih =>
    intro i hi hb
    have hi' : i < n := by omega
    have hin : vp_in (nI i) 8 := ip_in8 (by omega)
    have c1 := hb1 i hi'
    have c2 := hb2 i hi'
    refine br_f (nI_ge hi' (by omega)) ⟨hin, hin, pk_le (g1 i) (g i) (fun e => ?_) (fun e => ?_) (ip_rd hg hi' hn) (ip_rd he hi' hn)⟩
    · refine nm_r (nI_1 i) (ih (i + 1) (by omega) (fun b eb hbn => ?_))
      have h1 := hb b eb hbn
      by_cases e2 : b = i
      · subst e2
        rcases hx with ⟨ex, _⟩ | ⟨b', hbn', ex, H⟩
        · rw [eb] at ex
          exact absurd ex (fun z => absurd (nI_pos (n := b) (by omega)) (by rw [z]; decide))
        · rw [eb, nI_eq (by omega) (by omega)] at ex
          subst ex
          have h2 := H b hbn
          rw [ip_inc_s] at h2
          omega
      · omega
    · rcases hx with ⟨ex, H⟩ | ⟨b', hbn', ex, H⟩
      · have h2 := H i hi'
        omega
      · have h2 := H i hi'
        by_cases e2 : i = b'
        · subst e2; rw [← ex]; exact hp
        · rw [ip_inc_n e2] at h2
          omega
theorem ip_x_next10 (hn : n ≤ 8) (hg : ip_A n ag g) {post : Int32 → SX → Prop}
    (hp : ∀ ae', ip_A n ae' g → wpX_shareOut (fun u => match u with | (f_count, f_pot, f_over, a_wanted, a_rankOf, a_rules, a_got, a_limit, a_earlier) => ∃ n48 : Nat, wX_next_48 post f_count f_pot f_over a_wanted a_rankOf a_rules a_got a_limit a_earlier n48 0) (nI n, fp, fo, aw, ar, au, ag, al, ae') (fp + 1)) : ∀ d i ae, i + d = n → ip_A i ae g →
    wX_next_10 post (nI n) fp fo (d + 1) (nI i) aw ar au ag al ae := by
  intro d
  induction d with
  | zero =>
    intro i ae hi hA
    have e : i = n := by omega
    subst e
    exact br_t (nI_le (Nat.le_refl _) (by omega)) (hp ae hA)
  | succ d ih =>
    intro i ae hi hA
    have hi' : i < n := by omega
    have hin : vp_in (nI i) 8 := ip_in8 (by omega)
    refine br_f (nI_ge hi' (by omega)) ⟨hin, hin, nm_r (ip_up (y := nI (g i)) (by omega) (ip_rd hg hi' hn)) (nm_r (nI_1 i) (ih (i + 1) _ (by omega) (fun j hj => ?_)))⟩
    by_cases e : j = i
    · subst e; rw [pk_us]
    · rw [pk_un e]; exact hA j (by omega)
theorem ip_x_least (C : ip_C n w rk aw ar) (U : ip_U ru au) {j x : Nat} (hj : j < n) (hx : x ≤ 150) {post : Int32 → SX → Prop}
    (hp : ∀ E fo ag al, E ≤ 1500 → (E = 1500 ∨ x ≤ ip_G n w rk ru E j) → (E = 0 ∨ ip_G n w rk ru (E - 1) j < x) → post (nI E) (nI n, fp, fo, aw, ar, au, ag, al, ae)) : ∀ m lo hi k fo ag al, hi - lo < 2 ^ m → lo ≤ hi → hi ≤ 1500 → k + m ≤ 11 →
    (hi = 1500 ∨ x ≤ ip_G n w rk ru hi j) → (lo = 0 ∨ ip_G n w rk ru (lo - 1) j < x) → wX_leastEstate_47 post (nI j) (nI x) (m + 1) (nI lo) (nI hi) (nI k) (nI n) fp fo aw ar au ag al ae := by
  have hn := C.1
  intro m
  induction m with
  | zero =>
    intro lo hi k fo ag al h1 h2 h3 h4 h5 h6
    have e : lo = hi := by have : 2 ^ 0 = 1 := rfl; omega
    subst e
    exact br_f (nI_ge (b := 12) (by omega) (by omega)) (br_t (nI_le (Nat.le_refl _) (by omega)) (hp lo fo ag al h3 h5 h6))
  | succ m ih =>
    intro lo hi k fo ag al h1 h2 h3 h4 h5 h6
    have hpw : 2 ^ (m + 1) = 2 ^ m + 2 ^ m := by rw [Nat.pow_succ]; omega
    refine br_f (nI_ge (b := 12) (by omega) (by omega)) (pk_le hi lo (fun e => ?_) (fun e => ?_) rfl rfl)
    · have e : lo = hi := by omega
      subst e
      exact hp lo fo ag al h3 h5 h6
    · refine nm_r (e' := nI ((lo + hi) / 2)) ?_ ?_
      · rw [nI_add, pk_shrN (by omega) _ 1 (by decide)]
      · have hGb := ip_G_le (w := w) C.2.2.2.2 U.2 ((lo + hi) / 2) j hj
        have hwb := C.2.2.1 j hj
        refine ip_x_out C U (by omega) (fun ag' al' hA => ⟨ip_in8 (by omega), pk_lt (ip_G n w rk ru ((lo + hi) / 2) j) x (fun e2 => ?_) (fun e2 => ?_) (ip_rd hA hj hn) rfl⟩)
        · refine nm_r (nI_1 _) (nm_r (nI_1 k) (ih _ _ _ _ _ _ (by omega) (by omega) (by omega) (by omega) h5 (Or.inr ?_)))
          rw [Nat.add_sub_cancel]
          exact e2
        · exact nm_r (nI_1 k) (ih _ _ _ _ _ _ (by omega) (by omega) (by omega) (by omega) (Or.inr e2) h6)
theorem ip_y_least (C : ip_C n w rk aw ar) {j x E : Nat} (V : ip_V ru au (-1) 0) (hj : j < n) (hx : x ≤ w j) (hE : E ≤ 1500) (hlt : ∀ e, e < E → ip_G n w rk ru e j < x) (hge : x ≤ ip_G n w rk ru E j) {post : Int32 → SY → Prop}
    (hp : ∀ bg', post (nI E) (nI n, fm, aw, ar, au, bg')) : ∀ d e bg, e + d = E → ip_A n bg (ip_G n w rk ru e) → wY_leastEstate_31 post (nI j) (nI x) (nI n) fm (d + 1) (nI e) aw ar au bg := by
  have hn := C.1
  have hwb := C.2.2.1 j hj
  intro d
  induction d with
  | zero =>
    intro e bg he hA
    have e1 : e = E := by omega
    subst e1
    have hGb := ip_G_le (w := w) C.2.2.2.2 V.1 e j hj
    exact br_f (nI_nlt (a := 1500) (b := e) hE (by omega)) ⟨ip_in8 (by omega), pk_lt (ip_G n w rk ru e j) x (fun e2 => by omega) (fun e2 => hp bg) (ip_rd hA hj hn) rfl⟩
  | succ d ih =>
    intro e bg he hA
    have hGb := ip_G_le (w := w) C.2.2.2.2 V.1 e j hj
    have hl := hlt e (by omega)
    refine br_f (nI_nlt (a := 1500) (b := e) (by omega) (by omega)) ⟨ip_in8 (by omega), pk_lt (ip_G n w rk ru e j) x (fun e2 => ?_) (fun e2 => by omega) (ip_rd hA hj hn) rfl⟩
    refine ip_y_chosen C V hA (fun _ _ => rfl) (fun b hb hk hG => ?_) (fun hk hG => ?_)
    · have hib : vp_in (nI b) 8 := ip_in8 (by omega)
      refine br_t (nI_pos' (by omega)) ⟨hib, hib, nm_r (ip_up (y := nI (ip_G n w rk ru e b + 1)) (by omega) ?_) (nm_r (nI_1 e) (ih (e + 1) _ (by omega) (ip_A_inc hn hb hA hG)))⟩
      rw [ip_rd hA hb hn, nI_1]
    · have h1 := ip_G_top C.2.2.2.2 V.1 hk j hj
      omega
theorem ip_y_least_no (C : ip_C n w rk aw ar) {j x : Nat} (V : ip_V ru au (-1) 0) (hj : j < n) (hx : w j < x) (hx2 : x ≤ 150) {post : Int32 → SY → Prop}
    (hp : ∀ bg', post (-3) (nI n, fm, aw, ar, au, bg')) : ∀ d e bg, e + d = 1501 → ip_A n bg (ip_G n w rk ru e) → wY_leastEstate_31 post (nI j) (nI x) (nI n) fm (d + 1) (nI e) aw ar au bg := by
  have hn := C.1
  have hwb := C.2.2.1 j hj
  intro d
  induction d with
  | zero =>
    intro e bg he hA
    exact br_t (nI_lt (a := 1500) (b := e) (by omega) (by omega)) (hp bg)
  | succ d ih =>
    intro e bg he hA
    have hGb := ip_G_le (w := w) C.2.2.2.2 V.1 e j hj
    refine br_f (nI_nlt (a := 1500) (b := e) (by omega) (by omega)) ⟨ip_in8 (by omega), pk_lt (ip_G n w rk ru e j) x (fun e2 => ?_) (fun e2 => by omega) (ip_rd hA hj hn) rfl⟩
    refine ip_y_chosen C V hA (fun _ _ => rfl) (fun b hb hk hG => ?_) (fun hk hG => ?_)
    · have hib : vp_in (nI b) 8 := ip_in8 (by omega)
      refine br_t (nI_pos' (by omega)) ⟨hib, hib, nm_r (ip_up (y := nI (ip_G n w rk ru e b + 1)) (by omega) ?_) (nm_r (nI_1 e) (ih (e + 1) _ (by omega) (ip_A_inc hn hb hA hG)))⟩
      rw [ip_rd hA hb hn, nI_1]
    · exact br_f (by decide) (hp bg)
end
end
section
/-! the relation, and the calls that don't share out -/
def ip_R (B : Nat) (a : Nat → Int32) : Prop := ∀ j, ∃ m, m ≤ B ∧ a j = nI m
/-- the same creditors, claims, ranks, rules and estate; the rest is free -/
def i_Rel (k : Nat) (u : SX) (v : SY) : Prop := ∃ (n p : Nat) (fo : Int32) (aw ar au ag al ae bg : Nat → Int32), n ≤ 8 ∧ p ≤ 1500 ∧ ip_R 150 aw ∧ ip_R 3 ar ∧ ip_R 3 au ∧ u = (nI n, nI p, fo, aw, ar, au, ag, al, ae) ∧ v = (nI n, nI p, aw, ar, au, bg)
theorem i_up {k : Nat} {u : SX} {v : SY} (h : i_Rel k u v) : i_Rel (k + 3) u v := h
theorem ip_mk {k n p : Nat} {fo : Int32} {aw ar au ag al ae bg : Nat → Int32} (hn : n ≤ 8) (hp : p ≤ 1500) (h1 : ip_R 150 aw) (h2 : ip_R 3 ar) (h3 : ip_R 3 au) : i_Rel k (nI n, nI p, fo, aw, ar, au, ag, al, ae) (nI n, nI p, aw, ar, au, bg) :=
  ⟨n, p, fo, aw, ar, au, ag, al, ae, bg, hn, hp, h1, h2, h3, rfl, rfl⟩
theorem ip_el {k : Nat} {u : SX} {v : SY} {P : SX → SY → Prop} (I : i_Rel k u v) (h : ∀ (n p : Nat) (fo : Int32) (aw ar au ag al ae bg : Nat → Int32), n ≤ 8 → p ≤ 1500 → ip_R 150 aw → ip_R 3 ar → ip_R 3 au → P (nI n, nI p, fo, aw, ar, au, ag, al, ae) (nI n, nI p, aw, ar, au, bg)) : P u v := by
  obtain ⟨n, p, fo, aw, ar, au, ag, al, ae, bg, hn, hp, h1, h2, h3, e1, e2⟩ := I
  rw [e1, e2]
  exact h n p fo aw ar au ag al ae bg hn hp h1 h2 h3
theorem ip_R_0 (B : Nat) : ip_R B (fun _ => 0) := fun _ => ⟨0, Nat.zero_le _, rfl⟩
theorem i_vc0 : wpX_init (fun u => wpY_init (fun v => i_Rel 0 u v)) :=
  ip_mk (k := 0) (n := 0) (p := 0) (by omega) (by omega) (ip_R_0 150) (ip_R_0 3) (ip_R_0 3)
theorem ip_R_upd {B i m : Nat} {a : Nat → Int32} (h : ip_R B a) (hm : m ≤ B) : ip_R B (upd a i (nI m)) := by
  intro j
  by_cases e : j = i
  · subst e; exact ⟨m, hm, pk_us⟩
  · rw [pk_un e]; exact h j
theorem ip_R_cp {B i i' : Nat} {a : Nat → Int32} (h : ip_R B a) : ip_R B (upd a i (a i')) := by
  intro j
  by_cases e : j = i
  · subst e; rw [pk_us]; exact h i'
  · rw [pk_un e]; exact h j
def ip_N (a : Nat → Int32) : Nat → Nat := fun j => (a j).toNatClampNeg
theorem ip_R_N {B : Nat} {a : Nat → Int32} (hB : B < 2 ^ 31) (h : ip_R B a) (j : Nat) : a j = nI (ip_N a j) ∧ ip_N a j ≤ B := by
  obtain ⟨m, hm, e⟩ := h j
  unfold ip_N
  rw [e, nI_clamp (by omega)]
  exact ⟨rfl, hm⟩
theorem ip_R_C {n : Nat} {aw ar : Nat → Int32} (hn : n ≤ 8) (h1 : ip_R 150 aw) (h2 : ip_R 3 ar) : ip_C n (ip_N aw) (ip_N ar) aw ar :=
  ⟨hn, fun j _ => (ip_R_N (by omega) h1 j).1, fun j _ => (ip_R_N (by omega) h1 j).2, fun j _ => (ip_R_N (by omega) h2 j).1, fun j _ => Nat.lt_succ_of_le (ip_R_N (by omega) h2 j).2⟩
theorem ip_R_U {au : Nat → Int32} (h : ip_R 3 au) : ip_U (ip_N au) au := ⟨fun j _ => (ip_R_N (by omega) h j).1, fun j _ => (ip_R_N (by omega) h j).2⟩
theorem ip_m1 {r : Nat} (h : r < 2 ^ 31) : ¬ nI r = -1 := fun z => absurd (nI_pos (n := r) h) (by rw [z]; decide)
theorem ip_R_V {au : Nat → Int32} (h : ip_R 3 au) : ip_V (ip_N au) au (-1) 0 :=
  ⟨fun j _ => (ip_R_N (by omega) h j).2, fun r h4 => ⟨fun z => absurd z (ip_m1 (by omega)), fun _ => (ip_R_N (by omega) h r).1⟩⟩
/-- an int against the bound B -/
theorem ip_ix (B : Nat) (hB : B < 2 ^ 30) (v : Int32) : v < 0 ∨ (¬ v < 0 ∧ ¬ v ≤ nI B ∧ nI (B + 1) ≤ v ∧ nI B < v) ∨ ∃ j, j ≤ B ∧ v = nI j := by
  by_cases h : v < 0
  · exact Or.inl h
  · obtain ⟨j, hj, rfl⟩ := nI_of h
    by_cases e : j ≤ B
    · exact Or.inr (Or.inr ⟨j, e, rfl⟩)
    · exact Or.inr (Or.inl ⟨h, nI_ge (by omega) hj, nI_le (by omega) hj, nI_lt (by omega) hj⟩)
section
variable {n : Nat} {fm fp fo : Int32} {aw ar au ag al ae bg : Nat → Int32}
theorem ip_xc1 {j : Nat} (hn : n ≤ 8) (hj : j < n) {post : Int32 → Prop} (h : post 1) : wpX_isCreditor post (nI n, fp, fo, aw, ar, au, ag, al, ae) (nI j) :=
  br_f (nI_pos (by omega)) (br_f (nI_ge hj (by omega)) h)
theorem ip_xc0 {v : Int32} (hv : v < 0 ∨ nI n ≤ v) {post : Int32 → Prop} (h : post 0) : wpX_isCreditor post (nI n, fp, fo, aw, ar, au, ag, al, ae) v :=
  br_c (fun _ => h) (fun z => br_t (hv.resolve_left z) h)
theorem ip_yc0 {j : Nat} (hn : n ≤ 8) (hj : j < n) {post : Int32 → Prop} (h : post 0) : wpY_bad post (nI n, fm, aw, ar, au, bg) (nI j) :=
  br_f (nI_pos (by omega)) (br_f (nI_ge hj (by omega)) (br_t (nI_lt (b := 8) (by omega) (by omega)) h))
theorem ip_yc1 {v : Int32} (hv : v < 0 ∨ nI n ≤ v) {post : Int32 → Prop} (h : post 1) : wpY_bad post (nI n, fm, aw, ar, au, bg) v :=
  br_c (fun _ => h) (fun z => br_t (hv.resolve_left z) h)
theorem ip_xr1 {r : Nat} (hr : r ≤ 3) {post : Int32 → Prop} (h : post 1) : wpX_isRank post (nI r) :=
  br_f (nI_pos (by omega)) (br_f (nI_ge (b := 4) (by omega) (by omega)) h)
theorem ip_xr0 {v : Int32} (hv : v < 0 ∨ nI 4 ≤ v) {post : Int32 → Prop} (h : post 0) : wpX_isRank post v :=
  br_c (fun _ => h) (fun z => br_t (hv.resolve_left z) h)
theorem ip_xu1 {r : Nat} (hr : r ≤ 3) {post : Int32 → Prop} (h : post 1) : wpX_isRule post (nI r) :=
  br_f (nI_pos (by omega)) (br_f (nI_nlt (a := 3) (by omega) (by omega)) h)
theorem ip_xu0 {v : Int32} (hv : v < 0 ∨ nI 3 < v) {post : Int32 → Prop} (h : post 0) : wpX_isRule post v :=
  br_c (fun _ => h) (fun z => br_t (hv.resolve_left z) h)
theorem ip_yr0 {r : Nat} (hr : r ≤ 3) {post : Int32 → Prop} (h : post 0) : wpY_badRank post (nI n, fm, aw, ar, au, bg) (nI r) :=
  br_f (nI_pos (by omega)) (br_t (nI_le (b := 3) (by omega) (by omega)) h)
theorem ip_yr1 {v : Int32} (hv : v < 0 ∨ ¬ v ≤ nI 3) {post : Int32 → Prop} (h : post 1) : wpY_badRank post (nI n, fm, aw, ar, au, bg) v :=
  br_c (fun _ => h) (fun z => br_f (hv.resolve_left z) h)
theorem ip_yk0 {r : Nat} (hr : r ≤ 150) {post : Int32 → Prop} (h : post 0) : wpY_badClaim post (nI n, fm, aw, ar, au, bg) (nI r) :=
  br_f (nI_pos (by omega)) (br_t (nI_le (b := 150) (by omega) (by omega)) h)
theorem ip_yk1 {v : Int32} (hv : v < 0 ∨ ¬ v ≤ nI 150) {post : Int32 → Prop} (h : post 1) : wpY_badClaim post (nI n, fm, aw, ar, au, bg) v :=
  br_c (fun _ => h) (fun z => br_f (hv.resolve_left z) h)
theorem ip_yadd_c {v1 v2 : Int32} (hv : v1 < 0 ∨ ¬ v1 ≤ nI 150) {post : Int32 → SY → Prop} (h : post (-1) (nI n, fm, aw, ar, au, bg)) : wpY_add post (nI n, fm, aw, ar, au, bg) v1 v2 := by
  unfold wpY_add
  exact ip_yk1 hv (br_f (by decide) h)
end
theorem i_vc_add {k : Nat} {u : SX} {v : SY} (I : i_Rel k u v) (hk : k + 3 ≤ 1536) (v1 : Int32) (v2 : Int32) : wpX_add (fun r u' => wpY_add (fun r' v' => r' = r ∧ i_Rel (k + 3) u' v') v v1 v2) u v1 v2 := by
  refine ip_el (P := fun u v => wpX_add (fun r u' => wpY_add (fun r' v' => r' = r ∧ i_Rel (k + 3) u' v') v v1 v2) u v1 v2) I ?_
  intro n p fo aw ar au ag al ae bg hn hp h1 h2 h3
  unfold wpX_add
  rcases ip_ix 150 (by omega) v1 with e | ⟨e, e2, _⟩ | ⟨j, hj, rfl⟩
  · exact br_t e (ip_yadd_c (Or.inl e) ⟨rfl, ip_mk hn hp h1 h2 h3⟩)
  · exact br_f e (br_f e2 (ip_yadd_c (Or.inr e2) ⟨rfl, ip_mk hn hp h1 h2 h3⟩))
  · refine br_f (nI_pos (by omega)) (br_t (nI_le (b := 150) hj (by omega)) ?_)
    rcases ip_ix 3 (by omega) v2 with e | ⟨e, e2, e3, _⟩ | ⟨r, hr, rfl⟩
    · refine ip_xr0 (Or.inl e) (br_t rfl ?_)
      unfold wpY_add
      exact ip_yk0 hj (br_t rfl (ip_yr1 (Or.inl e) (br_f (by decide) ⟨rfl, ip_mk hn hp h1 h2 h3⟩)))
    · refine ip_xr0 (Or.inr e3) (br_t rfl ?_)
      unfold wpY_add
      exact ip_yk0 hj (br_t rfl (ip_yr1 (Or.inr e2) (br_f (by decide) ⟨rfl, ip_mk hn hp h1 h2 h3⟩)))
    · refine ip_xr1 hr (br_f (by decide) (pk_eq n 8 (fun e => ?_) (fun e => ?_) rfl rfl))
      · unfold wpY_add
        exact ip_yk0 hj (br_t rfl (ip_yr0 hr (br_t rfl (br_f (nI_nlt (b := 8) (by omega) (by omega)) ⟨rfl, ip_mk hn hp h1 h2 h3⟩))))
      · have hin : vp_in (nI n) 8 := ip_in8 (by omega)
        refine ⟨hin, nm_r (ip_up (y := nI j) (by omega) rfl) ⟨hin, nm_r (ip_up (y := nI r) (by omega) rfl) (nm_r (nI_1 n) ?_)⟩⟩
        unfold wpY_add
        refine ip_yk0 hj (br_t rfl (ip_yr0 hr (br_t rfl (br_t (nI_lt (b := 8) (by omega) (by omega)) ⟨hin, nm_r (ip_up (y := nI j) (by omega) rfl) ⟨hin, nm_r (ip_up (y := nI r) (by omega) rfl) (nm_r (nI_1 n) ⟨?_, ?_⟩)⟩⟩))))
        · exact (nI_pred n).symm
        · exact ip_mk (by omega) hp (ip_R_upd h1 hj) (ip_R_upd h2 hr) h3
theorem ip_remove {k n p : Nat} {fo : Int32} {au ag al ae bg : Nat → Int32} (hn : n + 1 ≤ 8) (hp : p ≤ 1500) (h3 : ip_R 3 au) : ∀ d c aw ar, c + d = n → ip_R 150 aw → ip_R 3 ar → ∃ aw' ar', ip_R 150 aw' ∧ ip_R 3 ar' ∧
    (∀ post : Int32 → SX → Prop, post (nI n) (nI n, nI p, fo, aw', ar', au, ag, al, ae) → wX_remove_14 post (nI (n + 1)) (nI p) fo (d + 1) (nI (c + 1)) aw ar au ag al ae) ∧
    (∀ post : Int32 → SY → Prop, post (nI n) (nI n, nI p, aw', ar', au, bg) → wY_remove_12 post (nI (n + 1)) (nI p) (d + 1) (nI c) aw ar au bg) := by
  intro d
  induction d with
  | zero =>
    intro c aw ar hc h1 h2
    have e : c = n := by omega
    subst e
    refine ⟨aw, ar, h1, h2, fun post h => br_t (nI_le (Nat.le_refl _) (by omega)) (nm_r (nI_pred c) h), fun post h => br_t ?_ ?_⟩
    · rw [nI_pred]; exact nI_le (Nat.le_refl _) (by omega)
    · unfold wY_remove_62
      exact nm_r (nI_pred c) h
  | succ d ih =>
    intro c aw ar hc h1 h2
    obtain ⟨aw', ar', r1, r2, HX, HY⟩ := ih (c + 1) (upd aw c (aw (c + 1))) (upd ar c (ar (c + 1))) (by omega) (ip_R_cp h1) (ip_R_cp h2)
    have hin : vp_in (nI c) 8 := ip_in8 (by omega)
    have hin1 : vp_in (nI (c + 1)) 8 := ip_in8 (by omega)
    have hin' : vp_in (nI (c + 1) - 1) 8 := by rw [nI_pred]; exact hin
    have hin1' : vp_in (nI c + 1) 8 := by rw [nI_1]; exact hin1
    have hx : ∀ a : Nat → Int32, upd a (nI (c + 1) - 1).toNatClampNeg (a (nI (c + 1)).toNatClampNeg) = upd a c (a (c + 1)) := fun a => by
      rw [nI_pred, nI_clamp (by omega), nI_clamp (by omega)]
    have hy : ∀ a : Nat → Int32, upd a (nI c).toNatClampNeg (a (nI c + 1).toNatClampNeg) = upd a c (a (c + 1)) := fun a => by
      rw [nI_1, nI_clamp (by omega), nI_clamp (by omega)]
    refine ⟨aw', ar', r1, r2, fun post h => ?_, fun post h => ?_⟩
    · exact br_f (nI_ge (by omega) (by omega)) ⟨hin1, hin', nm_r (hx aw) ⟨hin1, hin', nm_r (hx ar) (nm_r (nI_1 (c + 1)) (HX post h))⟩⟩
    · refine br_f ?_ (br_f (nI_ge (b := 7) (by omega) (by omega)) ⟨hin1', hin, nm_r (hy aw) ⟨hin1', hin, nm_r (hy ar) (nm_r (nI_1 c) (HY post h))⟩⟩)
      rw [nI_pred]; exact nI_ge (by omega) (by omega)
theorem i_vc_remove {k : Nat} {u : SX} {v : SY} (I : i_Rel k u v) (hk : k + 3 ≤ 1536) (v1 : Int32) : wpX_remove (fun r u' => wpY_remove (fun r' v' => r' = r ∧ i_Rel (k + 3) u' v') v v1) u v1 := by
  refine ip_el (P := fun u v => wpX_remove (fun r u' => wpY_remove (fun r' v' => r' = r ∧ i_Rel (k + 3) u' v') v v1) u v1) I ?_
  intro n p fo aw ar au ag al ae bg hn hp h1 h2 h3
  unfold wpX_remove
  rcases pk_ix v1 (n := n) (by omega) with e | e | ⟨j, hj, rfl⟩
  · refine ip_xc0 (Or.inl e) (br_t rfl ?_)
    unfold wpY_remove
    exact ip_yc1 (Or.inl e) (br_f (by decide) ⟨rfl, ip_mk hn hp h1 h2 h3⟩)
  · refine ip_xc0 (Or.inr e) (br_t rfl ?_)
    unfold wpY_remove
    exact ip_yc1 (Or.inr e) (br_f (by decide) ⟨rfl, ip_mk hn hp h1 h2 h3⟩)
  · obtain ⟨m, rfl⟩ : ∃ m, n = m + 1 := ⟨n - 1, by omega⟩
    obtain ⟨aw', ar', r1, r2, HX, HY⟩ := ip_remove (k := k) (fo := fo) (ag := ag) (al := al) (ae := ae) (bg := bg) hn hp h3 (m - j) j aw ar (by omega) h1 h2
    refine ip_xc1 hn hj (br_f (by decide) (nm_r (nI_1 j) ⟨_, HX _ ?_⟩))
    unfold wpY_remove
    exact ip_yc0 hn hj (br_t rfl ⟨_, HY _ ⟨rfl, ip_mk (by omega) hp r1 r2 h3⟩⟩)
theorem i_vc_change {k : Nat} {u : SX} {v : SY} (I : i_Rel k u v) (hk : k + 3 ≤ 1536) (v1 : Int32) (v2 : Int32) : wpX_change (fun r u' => wpY_change (fun r' v' => r' = r ∧ i_Rel (k + 3) u' v') v v1 v2) u v1 v2 := by
  refine ip_el (P := fun u v => wpX_change (fun r u' => wpY_change (fun r' v' => r' = r ∧ i_Rel (k + 3) u' v') v v1 v2) u v1 v2) I ?_
  intro n p fo aw ar au ag al ae bg hn hp h1 h2 h3
  unfold wpX_change
  rcases pk_ix v1 (n := n) (by omega) with e | e | ⟨j, hj, rfl⟩
  · refine ip_xc0 (Or.inl e) (br_t rfl ?_)
    unfold wpY_change
    exact ip_yc1 (Or.inl e) (br_f (by decide) ⟨rfl, ip_mk hn hp h1 h2 h3⟩)
  · refine ip_xc0 (Or.inr e) (br_t rfl ?_)
    unfold wpY_change
    exact ip_yc1 (Or.inr e) (br_f (by decide) ⟨rfl, ip_mk hn hp h1 h2 h3⟩)
  · refine ip_xc1 hn hj (br_f (by decide) ?_)
    rcases ip_ix 150 (by omega) v2 with e | ⟨e, e2, _⟩ | ⟨c, hc, rfl⟩
    · refine br_t e ?_
      unfold wpY_change
      exact ip_yc0 hn hj (br_t rfl (ip_yk1 (Or.inl e) (br_f (by decide) ⟨rfl, ip_mk hn hp h1 h2 h3⟩)))
    · refine br_f e (br_f e2 ?_)
      unfold wpY_change
      exact ip_yc0 hn hj (br_t rfl (ip_yk1 (Or.inr e2) (br_f (by decide) ⟨rfl, ip_mk hn hp h1 h2 h3⟩)))
    · have hin : vp_in (nI j) 8 := ip_in8 (by omega)
      refine br_f (nI_pos (by omega)) (br_t (nI_le (b := 150) hc (by omega)) ⟨hin, nm_e ⟨hin, nm_r (ip_up (y := nI c) (by omega) rfl) ?_⟩⟩)
      unfold wpY_change
      exact ip_yc0 hn hj (br_t rfl (ip_yk0 hc (br_t rfl ⟨hin, nm_e ⟨hin, nm_r (ip_up (y := nI c) (by omega) rfl) ⟨rfl, ip_mk hn hp (ip_R_upd h1 hc) h2 h3⟩⟩⟩)))
theorem i_vc_move {k : Nat} {u : SX} {v : SY} (I : i_Rel k u v) (hk : k + 3 ≤ 1536) (v1 : Int32) (v2 : Int32) : wpX_move (fun r u' => wpY_move (fun r' v' => r' = r ∧ i_Rel (k + 3) u' v') v v1 v2) u v1 v2 := by
  refine ip_el (P := fun u v => wpX_move (fun r u' => wpY_move (fun r' v' => r' = r ∧ i_Rel (k + 3) u' v') v v1 v2) u v1 v2) I ?_
  intro n p fo aw ar au ag al ae bg hn hp h1 h2 h3
  unfold wpX_move
  rcases pk_ix v1 (n := n) (by omega) with e | e | ⟨j, hj, rfl⟩
  · refine ip_xc0 (Or.inl e) (br_t rfl ?_)
    unfold wpY_move
    exact ip_yc1 (Or.inl e) (br_f (by decide) ⟨rfl, ip_mk hn hp h1 h2 h3⟩)
  · refine ip_xc0 (Or.inr e) (br_t rfl ?_)
    unfold wpY_move
    exact ip_yc1 (Or.inr e) (br_f (by decide) ⟨rfl, ip_mk hn hp h1 h2 h3⟩)
  · refine ip_xc1 hn hj (br_f (by decide) ?_)
    rcases ip_ix 3 (by omega) v2 with e | ⟨e, e2, e3, _⟩ | ⟨c, hc, rfl⟩
    · refine ip_xr0 (Or.inl e) (br_t rfl ?_)
      unfold wpY_move
      exact ip_yc0 hn hj (br_t rfl (ip_yr1 (Or.inl e) (br_f (by decide) ⟨rfl, ip_mk hn hp h1 h2 h3⟩)))
    · refine ip_xr0 (Or.inr e3) (br_t rfl ?_)
      unfold wpY_move
      exact ip_yc0 hn hj (br_t rfl (ip_yr1 (Or.inr e2) (br_f (by decide) ⟨rfl, ip_mk hn hp h1 h2 h3⟩)))
    · have hin : vp_in (nI j) 8 := ip_in8 (by omega)
      refine ip_xr1 hc (br_f (by decide) ⟨hin, nm_e ⟨hin, nm_r (ip_up (y := nI c) (by omega) rfl) ?_⟩⟩)
      unfold wpY_move
      exact ip_yc0 hn hj (br_t rfl (ip_yr0 hc (br_t rfl ⟨hin, nm_e ⟨hin, nm_r (ip_up (y := nI c) (by omega) rfl) ⟨rfl, ip_mk hn hp h1 (ip_R_upd h2 hc) h3⟩⟩⟩)))
theorem i_vc_rule {k : Nat} {u : SX} {v : SY} (I : i_Rel k u v) (hk : k + 3 ≤ 1536) (v1 : Int32) (v2 : Int32) : wpX_rule (fun r u' => wpY_rule (fun r' v' => r' = r ∧ i_Rel (k + 3) u' v') v v1 v2) u v1 v2 := by
  refine ip_el (P := fun u v => wpX_rule (fun r u' => wpY_rule (fun r' v' => r' = r ∧ i_Rel (k + 3) u' v') v v1 v2) u v1 v2) I ?_
  intro n p fo aw ar au ag al ae bg hn hp h1 h2 h3
  unfold wpX_rule
  rcases ip_ix 3 (by omega) v1 with e | ⟨e, e2, e3, _⟩ | ⟨j, hj, rfl⟩
  · refine ip_xr0 (Or.inl e) (br_t rfl ?_)
    unfold wpY_rule
    exact ip_yr1 (Or.inl e) (br_f (by decide) ⟨rfl, ip_mk hn hp h1 h2 h3⟩)
  · refine ip_xr0 (Or.inr e3) (br_t rfl ?_)
    unfold wpY_rule
    exact ip_yr1 (Or.inr e2) (br_f (by decide) ⟨rfl, ip_mk hn hp h1 h2 h3⟩)
  · refine ip_xr1 hj (br_f (by decide) ?_)
    rcases ip_ix 3 (by omega) v2 with e | ⟨e, e2, e3, e4⟩ | ⟨c, hc, rfl⟩
    · refine ip_xu0 (Or.inl e) (br_t rfl ?_)
      unfold wpY_rule
      exact ip_yr0 hj (br_t rfl (br_t e ⟨rfl, ip_mk hn hp h1 h2 h3⟩))
    · refine ip_xu0 (Or.inr e4) (br_t rfl ?_)
      unfold wpY_rule
      exact ip_yr0 hj (br_t rfl (br_f e (br_f e2 ⟨rfl, ip_mk hn hp h1 h2 h3⟩)))
    · have hin : vp_in (nI j) 4 := vp_in_nI (by omega) (by omega)
      refine ip_xu1 hc (br_f (by decide) ⟨hin, nm_e ⟨hin, nm_r (ip_up (y := nI c) (by omega) rfl) ?_⟩⟩)
      unfold wpY_rule
      exact ip_yr0 hj (br_t rfl (br_f (nI_pos (by omega)) (br_t (nI_le (b := 3) hc (by omega)) ⟨hin, nm_e ⟨hin, nm_r (ip_up (y := nI c) (by omega) rfl) ⟨rfl, ip_mk hn hp h1 h2 (ip_R_upd h3 hc)⟩⟩⟩)))
theorem i_vc_creditors {k : Nat} {u : SX} {v : SY} (I : i_Rel k u v) (hk : k + 3 ≤ 1536) : wpX_creditors (fun r => wpY_creditors (fun r' => r' = r ∧ i_Rel (k + 3) u v) v) u := by
  refine ip_el (P := fun u v => wpX_creditors (fun r => wpY_creditors (fun r' => r' = r ∧ i_Rel (k + 3) u v) v) u) I ?_
  intro n p fo aw ar au ag al ae bg hn hp h1 h2 h3
  exact ⟨rfl, ip_mk hn hp h1 h2 h3⟩
theorem i_vc_claimOf {k : Nat} {u : SX} {v : SY} (I : i_Rel k u v) (hk : k + 3 ≤ 1536) (v1 : Int32) : wpX_claimOf (fun r => wpY_claimOf (fun r' => r' = r ∧ i_Rel (k + 3) u v) v v1) u v1 := by
  refine ip_el (P := fun u v => wpX_claimOf (fun r => wpY_claimOf (fun r' => r' = r ∧ i_Rel (k + 3) u v) v v1) u v1) I ?_
  intro n p fo aw ar au ag al ae bg hn hp h1 h2 h3
  unfold wpX_claimOf
  rcases pk_ix v1 (n := n) (by omega) with e | e | ⟨j, hj, rfl⟩
  · refine ip_xc0 (Or.inl e) (br_t rfl ?_)
    unfold wpY_claimOf
    exact ip_yc1 (Or.inl e) (br_f (by decide) ⟨rfl, ip_mk hn hp h1 h2 h3⟩)
  · refine ip_xc0 (Or.inr e) (br_t rfl ?_)
    unfold wpY_claimOf
    exact ip_yc1 (Or.inr e) (br_f (by decide) ⟨rfl, ip_mk hn hp h1 h2 h3⟩)
  · have hin : vp_in (nI j) 8 := ip_in8 (by omega)
    refine ip_xc1 hn hj (br_f (by decide) ⟨hin, ?_⟩)
    unfold wpY_claimOf
    exact ip_yc0 hn hj (br_t rfl ⟨hin, rfl, ip_mk hn hp h1 h2 h3⟩)
theorem i_vc_estate {k : Nat} {u : SX} {v : SY} (I : i_Rel k u v) (hk : k + 3 ≤ 1536) (v1 : Int32) : wpX_estate (fun r u' => wpY_estate (fun r' v' => r' = r ∧ i_Rel (k + 3) u' v') v v1) u v1 := by
  refine ip_el (P := fun u v => wpX_estate (fun r u' => wpY_estate (fun r' v' => r' = r ∧ i_Rel (k + 3) u' v') v v1) u v1) I ?_
  intro n p fo aw ar au ag al ae bg hn hp h1 h2 h3
  have a1 : (-1500 : Int32).toInt = -1500 := by decide
  have a2 : (1500 : Int32).toInt = 1500 := by decide
  have a3 : (0 : Int32).toInt = 0 := by decide
  have a4 : (-nI p).toInt = -(p : Int) := sb_negT (by omega)
  have a5 : (1500 - nI p).toInt = 1500 - (p : Int) := pk_sub_toInt (a := 1500) (by omega) (by omega)
  have a6 : (nI p).toInt = (p : Int) := nI_toInt (by omega)
  have a7 : -1500 ≤ v1.toInt → v1.toInt ≤ 1500 → (nI p + v1).toInt = (p : Int) + v1.toInt := fun b1 b2 => by
    rw [Int32.toInt_add, a6]
    exact Int.bmod_eq_of_le (by omega) (by omega)
  unfold wpX_estate
  by_cases hD : -(p : Int) ≤ v1.toInt ∧ v1.toInt ≤ 1500 - (p : Int)
  · have a8 := a7 (by omega) (by omega)
    obtain ⟨q, hq⟩ : ∃ q : Nat, (q : Int) = (p : Int) + v1.toInt := ⟨((p : Int) + v1.toInt).toNat, by omega⟩
    have a9 : nI p + v1 = nI q := by
      apply Int32.toInt_inj.mp
      rw [a8, nI_toInt (by omega)]
      exact hq.symm
    refine br_f ?_ (br_f ?_ (br_f ?_ (br_t ?_ (nm_r a9 ?_))))
    · rw [Int32.lt_iff_toInt_lt, a1]; omega
    · rw [Int32.lt_iff_toInt_lt, a2]; omega
    · rw [Int32.lt_iff_toInt_lt, a8, a3]; omega
    · rw [Int32.le_iff_toInt_le, a8, a2]; omega
    · unfold wpY_estate
      refine br_f ?_ (br_t ?_ (nm_r a9 ⟨rfl, ip_mk hn (by omega) h1 h2 h3⟩))
      · rw [Int32.lt_iff_toInt_lt, a4]; omega
      · rw [Int32.le_iff_toInt_le, a5]; omega
  · have K : wpY_estate (fun r' v' => r' = (-1) ∧ i_Rel (k + 3) (nI n, nI p, fo, aw, ar, au, ag, al, ae) v') (nI n, nI p, aw, ar, au, bg) v1 := by
      unfold wpY_estate
      refine br_c (fun _ => ⟨rfl, ip_mk hn hp h1 h2 h3⟩) (fun b1 => br_f ?_ ⟨rfl, ip_mk hn hp h1 h2 h3⟩)
      rw [Int32.lt_iff_toInt_lt, a4] at b1
      rw [Int32.le_iff_toInt_le, a5]
      omega
    refine br_c (fun _ => K) (fun b1 => br_c (fun _ => K) (fun b2 => br_c (fun _ => K) (fun b3 => br_f ?_ K)))
    rw [Int32.lt_iff_toInt_lt, a1] at b1
    rw [Int32.lt_iff_toInt_lt, a2] at b2
    have a8 := a7 (by omega) (by omega)
    rw [Int32.lt_iff_toInt_lt, a8, a3] at b3
    rw [Int32.le_iff_toInt_le, a8, a2]
    omega
end
section
/-! the calls that share out -/
theorem i_vc_share {k : Nat} {u : SX} {v : SY} (I : i_Rel k u v) (hk : k + 3 ≤ 1536) (v1 : Int32) : wpX_share (fun r u' => wpY_share (fun r' v' => r' = r ∧ i_Rel (k + 3) u' v') v v1) u v1 := by
  refine ip_el (P := fun u v => wpX_share (fun r u' => wpY_share (fun r' v' => r' = r ∧ i_Rel (k + 3) u' v') v v1) u v1) I ?_
  intro n p fo aw ar au ag al ae bg hn hp h1 h2 h3
  have C := ip_R_C hn h1 h2
  unfold wpX_share
  rcases pk_ix v1 (n := n) (by omega) with e | e | ⟨j, hj, rfl⟩
  · refine ip_xc0 (Or.inl e) (br_t rfl ?_)
    unfold wpY_share
    exact ip_yc1 (Or.inl e) (br_f (by decide) ⟨rfl, ip_mk hn hp h1 h2 h3⟩)
  · refine ip_xc0 (Or.inr e) (br_t rfl ?_)
    unfold wpY_share
    exact ip_yc1 (Or.inr e) (br_f (by decide) ⟨rfl, ip_mk hn hp h1 h2 h3⟩)
  · have hin : vp_in (nI j) 8 := ip_in8 (by omega)
    refine ip_xc1 hn hj (br_f (by decide) (ip_x_out C (ip_R_U h3) (by omega) (fun ag' al' hA => ⟨hin, ?_⟩)))
    unfold wpY_share
    refine ip_yc0 hn hj (br_t rfl (ip_y_hand C (ip_R_V h3) (by omega) (fun bg' hB => ⟨hin, ?_, ip_mk hn hp h1 h2 h3⟩)))
    rw [ip_rd hB hj hn, ip_rd hA hj hn]
theorem i_vc_shareOf {k : Nat} {u : SX} {v : SY} (I : i_Rel k u v) (hk : k + 3 ≤ 1536) (v1 : Int32) (v2 : Int32) : wpX_shareOf (fun r u' => wpY_shareOf (fun r' v' => r' = r ∧ i_Rel (k + 3) u' v') v v1 v2) u v1 v2 := by
  refine ip_el (P := fun u v => wpX_shareOf (fun r u' => wpY_shareOf (fun r' v' => r' = r ∧ i_Rel (k + 3) u' v') v v1 v2) u v1 v2) I ?_
  intro n p fo aw ar au ag al ae bg hn hp h1 h2 h3
  have C := ip_R_C hn h1 h2
  unfold wpX_shareOf
  rcases pk_ix v1 (n := n) (by omega) with e | e | ⟨j, hj, rfl⟩
  · refine ip_xc0 (Or.inl e) (br_t rfl ?_)
    unfold wpY_shareOf
    exact ip_yc1 (Or.inl e) (br_f (by decide) ⟨rfl, ip_mk hn hp h1 h2 h3⟩)
  · refine ip_xc0 (Or.inr e) (br_t rfl ?_)
    unfold wpY_shareOf
    exact ip_yc1 (Or.inr e) (br_f (by decide) ⟨rfl, ip_mk hn hp h1 h2 h3⟩)
  · have hin : vp_in (nI j) 8 := ip_in8 (by omega)
    refine ip_xc1 hn hj (br_f (by decide) ?_)
    rcases ip_ix 1500 (by omega) v2 with e | ⟨e, e2, _⟩ | ⟨m, hm, rfl⟩
    · refine br_t e ?_
      unfold wpY_shareOf
      exact ip_yc0 hn hj (br_t rfl (br_t e ⟨rfl, ip_mk hn hp h1 h2 h3⟩))
    · refine br_f e (br_f e2 ?_)
      unfold wpY_shareOf
      exact ip_yc0 hn hj (br_t rfl (br_f e (br_f e2 ⟨rfl, ip_mk hn hp h1 h2 h3⟩)))
    · refine br_f (nI_pos (by omega)) (br_t (nI_le (b := 1500) hm (by omega)) (ip_x_out C (ip_R_U h3) (by omega) (fun ag' al' hA => ⟨hin, ?_⟩)))
      unfold wpY_shareOf
      refine ip_yc0 hn hj (br_t rfl (br_f (nI_pos (by omega)) (br_t (nI_le (b := 1500) hm (by omega)) (ip_y_hand C (ip_R_V h3) (by omega) (fun bg' hB => ⟨hin, ?_, ip_mk hn hp h1 h2 h3⟩)))))
      rw [ip_rd hB hj hn, ip_rd hA hj hn]
theorem ip_upd_back {a : Nat → Int32} {i : Nat} {x : Int32} : upd (upd a i x) i (a i) = a := by
  funext j
  by_cases e : j = i
  · subst e; rw [pk_us]
  · rw [pk_un e, pk_un e]
theorem i_vc_shareUnder {k : Nat} {u : SX} {v : SY} (I : i_Rel k u v) (hk : k + 3 ≤ 1536) (v1 : Int32) (v2 : Int32) : wpX_shareUnder (fun r u' => wpY_shareUnder (fun r' v' => r' = r ∧ i_Rel (k + 3) u' v') v v1 v2) u v1 v2 := by
  refine ip_el (P := fun u v => wpX_shareUnder (fun r u' => wpY_shareUnder (fun r' v' => r' = r ∧ i_Rel (k + 3) u' v') v v1 v2) u v1 v2) I ?_
  intro n p fo aw ar au ag al ae bg hn hp h1 h2 h3
  have C := ip_R_C hn h1 h2
  unfold wpX_shareUnder
  rcases pk_ix v1 (n := n) (by omega) with e | e | ⟨j, hj, rfl⟩
  · refine ip_xc0 (Or.inl e) (br_t rfl ?_)
    unfold wpY_shareUnder
    exact ip_yc1 (Or.inl e) (br_f (by decide) ⟨rfl, ip_mk hn hp h1 h2 h3⟩)
  · refine ip_xc0 (Or.inr e) (br_t rfl ?_)
    unfold wpY_shareUnder
    exact ip_yc1 (Or.inr e) (br_f (by decide) ⟨rfl, ip_mk hn hp h1 h2 h3⟩)
  · have hin : vp_in (nI j) 8 := ip_in8 (by omega)
    refine ip_xc1 hn hj (br_f (by decide) ?_)
    rcases ip_ix 3 (by omega) v2 with e | ⟨e, e2, e3, e4⟩ | ⟨m, hm, rfl⟩
    · refine ip_xu0 (Or.inl e) (br_t rfl ?_)
      unfold wpY_shareUnder
      exact ip_yc0 hn hj (br_t rfl (br_t e ⟨rfl, ip_mk hn hp h1 h2 h3⟩))
    · refine ip_xu0 (Or.inr e4) (br_t rfl ?_)
      unfold wpY_shareUnder
      exact ip_yc0 hn hj (br_t rfl (br_f e (br_f e2 ⟨rfl, ip_mk hn hp h1 h2 h3⟩)))
    · obtain ⟨r, hr, er⟩ := h2 j
      have er' : ar (nI j).toNatClampNeg = nI r := by rw [nI_clamp (by omega)]; exact er
      have hir : vp_in (nI r) 4 := vp_in_nI (by omega) (by omega)
      have cr : (nI r).toNatClampNeg = r := nI_clamp (by omega)
      have U : ip_U (ip_N (upd au r (nI m))) (upd au r (nI m)) := ip_R_U (ip_R_upd h3 hm)
      have V : ip_V (ip_N (upd au r (nI m))) au (nI r) (nI m) := by
        refine ⟨U.2, fun s h4 => ⟨fun z => ?_, fun z => ?_⟩⟩
        · rw [nI_eq (by omega) (by omega)] at z
          subst z
          rw [← (U.1 s h4), pk_us]
        · have hne : s ≠ r := fun z' => z (by rw [z'])
          rw [← (U.1 s h4), pk_un hne]
      refine ip_xu1 hm (br_f (by decide) ⟨hin, nm_r er' ⟨hir, nm_e ⟨hir, nm_r (e' := upd au r (nI m)) (by rw [cr]) ?_⟩⟩⟩)
      refine ip_x_out C U (by omega) (fun ag' al' hA => ⟨hir, nm_r (e' := au) (by rw [cr]; exact ip_upd_back) ⟨hin, ?_⟩⟩)
      unfold wpY_shareUnder
      refine ip_yc0 hn hj (br_t rfl (br_f (nI_pos (by omega)) (br_t (nI_le (b := 3) hm (by omega)) ⟨hin, ?_⟩)))
      rw [er']
      refine ip_y_hand C V (by omega) (fun bg' hB => ⟨hin, ?_, ip_mk hn hp h1 h2 h3⟩)
      rw [ip_rd hB hj hn, ip_rd hA hj hn]
theorem i_vc_leastEstate {k : Nat} {u : SX} {v : SY} (I : i_Rel k u v) (hk : k + 3 ≤ 1536) (v1 : Int32) (v2 : Int32) : wpX_leastEstate (fun r u' => wpY_leastEstate (fun r' v' => r' = r ∧ i_Rel (k + 3) u' v') v v1 v2) u v1 v2 := by
  refine ip_el (P := fun u v => wpX_leastEstate (fun r u' => wpY_leastEstate (fun r' v' => r' = r ∧ i_Rel (k + 3) u' v') v v1 v2) u v1 v2) I ?_
  intro n p fo aw ar au ag al ae bg hn hp h1 h2 h3
  have C := ip_R_C hn h1 h2
  have U := ip_R_U h3
  have V := ip_R_V h3
  unfold wpX_leastEstate
  rcases pk_ix v1 (n := n) (by omega) with e | e | ⟨j, hj, rfl⟩
  · refine ip_xc0 (Or.inl e) (br_t rfl ?_)
    unfold wpY_leastEstate
    exact ip_yc1 (Or.inl e) (br_f (by decide) ⟨rfl, ip_mk hn hp h1 h2 h3⟩)
  · refine ip_xc0 (Or.inr e) (br_t rfl ?_)
    unfold wpY_leastEstate
    exact ip_yc1 (Or.inr e) (br_f (by decide) ⟨rfl, ip_mk hn hp h1 h2 h3⟩)
  · have hin : vp_in (nI j) 8 := ip_in8 (by omega)
    refine ip_xc1 hn hj (br_f (by decide) ?_)
    rcases ip_ix 150 (by omega) v2 with e | ⟨e, e2, _⟩ | ⟨x, hx, rfl⟩
    · refine br_t e ?_
      unfold wpY_leastEstate
      exact ip_yc0 hn hj (br_t rfl (ip_yk1 (Or.inl e) (br_f (by decide) ⟨rfl, ip_mk hn hp h1 h2 h3⟩)))
    · refine br_f e (br_f e2 ?_)
      unfold wpY_leastEstate
      exact ip_yc0 hn hj (br_t rfl (ip_yk1 (Or.inr e2) (br_f (by decide) ⟨rfl, ip_mk hn hp h1 h2 h3⟩)))
    · have hwj := C.2.2.1 j hj
      refine br_f (nI_pos (by omega)) (br_t (nI_le (b := 150) hx (by omega)) ⟨hin, pk_le x (ip_N aw j) (fun e => ⟨12, ?_⟩) (fun e => ?_) rfl (ip_rd C.2.1 hj hn)⟩)
      · refine ip_x_least C U hj hx (fun E fo' ag' al' hE hE1 hE2 => ?_) 11 0 1500 0 fo ag al (by decide) (by omega) (by omega) (by omega) (Or.inl rfl) (Or.inl rfl)
        have hpre : ip_pre n (ip_N aw) (ip_N ar) 4 ≤ 8 * 150 := by
          rw [ip_pre_4 C.2.2.2.2]
          exact ip_big 150 hn (Nat.le_refl n) C.2.2.1
        have hge : x ≤ ip_G n (ip_N aw) (ip_N ar) (ip_N au) E j := by
          rcases hE1 with e1 | e1
          · rw [ip_G_top C.2.2.2.2 U.2 (by omega) j hj]; exact e
          · exact e1
        have hlt : ∀ e', e' < E → ip_G n (ip_N aw) (ip_N ar) (ip_N au) e' j < x := by
          intro e' he'
          rcases hE2 with e1 | e1
          · omega
          · have h5 := ip_G_mono (w := ip_N aw) C.2.2.2.2 U.2 (a := e') (b := E - 1) (by omega) j hj
            omega
        unfold wpY_leastEstate
        exact ip_yc0 hn hj (br_t rfl (ip_yk0 hx (br_t rfl (ip_y_hand (K := 0) C V (by omega) (fun bg' hB => ⟨E + 1, ip_y_least C V hj e hE hlt hge (fun bg2 => ⟨rfl, ip_mk hn hp h1 h2 h3⟩) E 0 bg' (by omega) hB⟩)))))
      · unfold wpY_leastEstate
        exact ip_yc0 hn hj (br_t rfl (ip_yk0 hx (br_t rfl (ip_y_hand (K := 0) C V (by omega) (fun bg' hB => ⟨1502, ip_y_least_no C V hj e hx (fun bg2 => ⟨rfl, ip_mk hn hp h1 h2 h3⟩) 1501 0 bg' (by omega) hB⟩)))))
theorem i_vc_claims {k : Nat} {u : SX} {v : SY} (I : i_Rel k u v) (hk : k + 3 ≤ 1536) (v1 : Int32) : wpX_claims (fun r => wpY_claims (fun r' => r' = r ∧ i_Rel (k + 3) u v) v v1) u v1 := by
  refine ip_el (P := fun u v => wpX_claims (fun r => wpY_claims (fun r' => r' = r ∧ i_Rel (k + 3) u v) v v1) u v1) I ?_
  intro n p fo aw ar au ag al ae bg hn hp h1 h2 h3
  have C := ip_R_C hn h1 h2
  unfold wpX_claims
  rcases ip_ix 3 (by omega) v1 with e | ⟨e, e2, e3, _⟩ | ⟨r, hr, rfl⟩
  · refine ip_xr0 (Or.inl e) (br_t rfl ?_)
    unfold wpY_claims
    exact ip_yr1 (Or.inl e) (br_f (by decide) ⟨rfl, ip_mk hn hp h1 h2 h3⟩)
  · refine ip_xr0 (Or.inr e3) (br_t rfl ?_)
    unfold wpY_claims
    exact ip_yr1 (Or.inr e2) (br_f (by decide) ⟨rfl, ip_mk hn hp h1 h2 h3⟩)
  · refine ip_xr1 hr (br_f (by decide) (ip_x_total C (by omega) ?_))
    unfold wpY_claims
    exact ip_yr0 hr (br_t rfl ⟨n + 1, ip_y_claims_l C (by omega) ⟨rfl, ip_mk hn hp h1 h2 h3⟩ n 0 (by omega)⟩)
theorem i_vc_paid {k : Nat} {u : SX} {v : SY} (I : i_Rel k u v) (hk : k + 3 ≤ 1536) (v1 : Int32) : wpX_paid (fun r u' => wpY_paid (fun r' v' => r' = r ∧ i_Rel (k + 3) u' v') v v1) u v1 := by
  refine ip_el (P := fun u v => wpX_paid (fun r u' => wpY_paid (fun r' v' => r' = r ∧ i_Rel (k + 3) u' v') v v1) u v1) I ?_
  intro n p fo aw ar au ag al ae bg hn hp h1 h2 h3
  have C := ip_R_C hn h1 h2
  unfold wpX_paid
  rcases ip_ix 3 (by omega) v1 with e | ⟨e, e2, e3, _⟩ | ⟨r, hr, rfl⟩
  · refine ip_xr0 (Or.inl e) (br_t rfl ?_)
    unfold wpY_paid
    exact ip_yr1 (Or.inl e) (br_f (by decide) ⟨rfl, ip_mk hn hp h1 h2 h3⟩)
  · refine ip_xr0 (Or.inr e3) (br_t rfl ?_)
    unfold wpY_paid
    exact ip_yr1 (Or.inr e2) (br_f (by decide) ⟨rfl, ip_mk hn hp h1 h2 h3⟩)
  · refine ip_xr1 hr (br_f (by decide) (ip_x_out C (ip_R_U h3) (by omega) (fun ag' al' hA => ⟨n + 1, ip_x_paid_l C hA (by omega) ?_ n 0 (by omega)⟩)))
    unfold wpY_paid
    exact ip_yr0 hr (br_t rfl (ip_y_hand C (ip_R_V h3) (by omega) (fun bg' hB => ⟨n + 1, ip_y_paid_l C hB (by omega) ⟨rfl, ip_mk hn hp h1 h2 h3⟩ n 0 (by omega)⟩)))
theorem i_vc_left {k : Nat} {u : SX} {v : SY} (I : i_Rel k u v) (hk : k + 3 ≤ 1536) : wpX_left (fun r u' => wpY_left (fun r' v' => r' = r ∧ i_Rel (k + 3) u' v') v) u := by
  refine ip_el (P := fun u v => wpX_left (fun r u' => wpY_left (fun r' v' => r' = r ∧ i_Rel (k + 3) u' v') v) u) I ?_
  intro n p fo aw ar au ag al ae bg hn hp h1 h2 h3
  have C := ip_R_C hn h1 h2
  unfold wpX_left
  refine ip_x_out C (ip_R_U h3) (by omega) (fun ag' al' hA => ?_)
  unfold wpY_left
  exact ip_y_hand C (ip_R_V h3) (by omega) (fun bg' hB => ⟨rfl, ip_mk hn hp h1 h2 h3⟩)
theorem i_vc_next {k : Nat} {u : SX} {v : SY} (I : i_Rel k u v) (hk : k + 3 ≤ 1536) : wpX_next (fun r u' => wpY_next (fun r' v' => r' = r ∧ i_Rel (k + 3) u' v') v) u := by
  refine ip_el (P := fun u v => wpX_next (fun r u' => wpY_next (fun r' v' => r' = r ∧ i_Rel (k + 3) u' v') v) u) I ?_
  intro n p fo aw ar au ag al ae bg hn hp h1 h2 h3
  have C := ip_R_C hn h1 h2
  have U := ip_R_U h3
  have V := ip_R_V h3
  have hb : ∀ q j, j < n → ip_G n (ip_N aw) (ip_N ar) (ip_N au) q j ≤ 150 := fun q j hj => Nat.le_trans (ip_G_le C.2.2.2.2 U.2 q j hj) (C.2.2.1 j hj)
  have hone := ip_G_one (k := p) (w := ip_N aw) C.2.2.2.2 U.2
  unfold wpX_next
  refine ip_x_out C U (by omega) (fun ag' al' hA => ⟨n + 1, ip_x_next10 hn hA (fun ae' hE => ?_) n 0 ae (by omega) (fun j hj => by omega)⟩)
  rw [nI_1]
  refine ip_x_out C U (by omega) (fun ag2 al2 hA2 => ?_)
  rcases hone with H | ⟨b, hbn, H⟩
  · refine ⟨n + 1, ip_x_next48 (x := -1) hn hA2 hE (hb p) (hb (p + 1)) (Or.inl ⟨rfl, H⟩) ?_ n 0 (by omega) (fun b _ _ => Nat.zero_le _)⟩
    unfold wpY_next
    refine ip_y_hand C V (by omega) (fun bg' hB => ip_y_chosen C V hB (fun _ _ => rfl) (fun b hbn _ hG => ?_) (fun _ _ => ⟨rfl, ip_mk hn hp h1 h2 h3⟩))
    have h5 := hG b hbn
    rw [← H b hbn, ip_inc_s] at h5
    omega
  · refine ⟨n + 1, ip_x_next48 (x := nI b) hn hA2 hE (hb p) (hb (p + 1)) (Or.inr ⟨b, hbn, rfl, H⟩) ?_ n 0 (by omega) (fun b _ _ => Nat.zero_le _)⟩
    unfold wpY_next
    refine ip_y_hand C V (by omega) (fun bg' hB => ip_y_chosen C V hB (fun _ _ => rfl) (fun b' hbn' _ hG => ⟨?_, ip_mk hn hp h1 h2 h3⟩) (fun _ hG => ?_))
    · by_cases e : b' = b
      · rw [e]
      · have h5 := hG b' hbn'
        rw [← H b' hbn', ip_inc_s, ip_inc_n e] at h5
        omega
    · have h5 := hG b hbn
      rw [← H b hbn, ip_inc_s] at h5
      omega
theorem i_vc_unpaid {k : Nat} {u : SX} {v : SY} (I : i_Rel k u v) (hk : k + 3 ≤ 1536) : wpX_unpaid (fun r u' => wpY_unpaid (fun r' v' => r' = r ∧ i_Rel (k + 3) u' v') v) u := by
  refine ip_el (P := fun u v => wpX_unpaid (fun r u' => wpY_unpaid (fun r' v' => r' = r ∧ i_Rel (k + 3) u' v') v) u) I ?_
  intro n p fo aw ar au ag al ae bg hn hp h1 h2 h3
  have C := ip_R_C hn h1 h2
  have hle : ∀ j, j < n → ip_G n (ip_N aw) (ip_N ar) (ip_N au) p j ≤ ip_N aw j := ip_G_le C.2.2.2.2 (ip_R_U h3).2 p
  unfold wpX_unpaid
  refine ip_x_out C (ip_R_U h3) (by omega) (fun ag' al' hA => ⟨n + 1, ip_x_unpaid_l C hA hle ?_ n 0 (by omega)⟩)
  unfold wpY_unpaid
  exact ip_y_hand C (ip_R_V h3) (by omega) (fun bg' hB => ⟨n + 1, ip_y_unpaid_l C hB hle ⟨rfl, ip_mk hn hp h1 h2 h3⟩ n 0 (by omega)⟩)
theorem i_vc_worst {k : Nat} {u : SX} {v : SY} (I : i_Rel k u v) (hk : k + 3 ≤ 1536) : wpX_worst (fun r u' => wpY_worst (fun r' v' => r' = r ∧ i_Rel (k + 3) u' v') v) u := by
  refine ip_el (P := fun u v => wpX_worst (fun r u' => wpY_worst (fun r' v' => r' = r ∧ i_Rel (k + 3) u' v') v) u) I ?_
  intro n p fo aw ar au ag al ae bg hn hp h1 h2 h3
  have C := ip_R_C hn h1 h2
  have hle : ∀ j, j < n → ip_G n (ip_N aw) (ip_N ar) (ip_N au) p j ≤ ip_N aw j := ip_G_le C.2.2.2.2 (ip_R_U h3).2 p
  unfold wpX_worst
  refine ip_x_out C (ip_R_U h3) (by omega) (fun ag' al' hA => ⟨n + 1, ip_x_worst_l C hA hle ?_ n 0 (by omega)⟩)
  unfold wpY_worst
  exact ip_y_hand C (ip_R_V h3) (by omega) (fun bg' hB => ⟨n + 1, ip_y_worst_l C hB hle ⟨rfl, ip_mk hn hp h1 h2 h3⟩ n 0 (by omega)⟩)
end
