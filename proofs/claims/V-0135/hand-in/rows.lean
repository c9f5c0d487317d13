section
/-! rows of the kit pasted (pk_), rows turned from a worked proof (fx, sind, b01, cn), and small rows of mine -/
theorem pk_us {f : Nat → Int32} {k : Nat} {x : Int32} : upd f k x k = x := if_pos rfl
theorem pk_un {f : Nat → Int32} {k j : Nat} {x : Int32} (h : j ≠ k) : upd f k x j = f j := if_neg h
theorem pk_sub {a b : Nat} (h : b ≤ a) : nI a - nI b = nI (a - b) := by
  obtain ⟨c, rfl⟩ : ∃ c, a = c + b := ⟨a - b, by omega⟩
  rw [← nI_add, Int32.add_sub_cancel, Nat.add_sub_cancel]
theorem pk_m1 (n : Nat) : nI (n + 1) + (-1) = nI n := by
  rw [← nI_1, Int32.add_assoc, show (1 : Int32) + (-1) = 0 from rfl, Int32.add_zero]
theorem pk_mul (a b : Nat) : nI a * nI b = nI (a * b) := (Int32.ofNat_mul a b).symm
theorem pk_div {a d : Nat} (ha : a < 2 ^ 31) (h0 : 0 < d) (hd : d < 2 ^ 31) : nI a / nI d = nI (a / d) := by
  apply Int32.toInt_inj.mp
  rw [lg_idiv_nonneg (by rw [nI_toInt ha]; omega) (by rw [nI_toInt hd]; omega), nI_toInt ha, nI_toInt hd, nI_toInt (Nat.lt_of_le_of_lt (Nat.div_le_self a d) ha)]
  first | rfl | exact (Int.natCast_ediv _ _).symm
theorem pk_rem {a d : Nat} (ha : a < 2 ^ 31) (h0 : 0 < d) (hd : d < 2 ^ 31) : nI a - nI a / nI d * nI d = nI (a % d) := by
  rw [pk_div ha h0 hd, pk_mul, pk_sub (Nat.div_mul_le_self a d)]
  exact congrArg nI (by have := Nat.div_add_mod' a d; omega)
theorem pk_sub_toInt {a b : Nat} (ha : a < 2 ^ 30) (hb : b < 2 ^ 30) : (nI a - nI b).toInt = (a : Int) - b := by
  rw [Int32.toInt_sub, nI_toInt (by omega), nI_toInt (by omega)]
  exact Int.bmod_eq_of_le (by omega) (by omega)
theorem pk_sneg {a b : Nat} (hb : b < 2 ^ 30) (h : a < b) : nI a - nI b < 0 := by
  rw [Int32.lt_iff_toInt_lt, pk_sub_toInt (by omega) hb, show (0 : Int32).toInt = 0 from by decide]
  omega
theorem pk_ix (x : Int32) {n : Nat} (hn : n < 2 ^ 31) : x < 0 ∨ nI n ≤ x ∨ ∃ j : Nat, j < n ∧ x = nI j := by
  by_cases h : x < 0
  · exact Or.inl h
  · obtain ⟨j, hj, rfl⟩ := nI_of h
    by_cases h2 : j < n
    · exact Or.inr (Or.inr ⟨j, h2, rfl⟩)
    · exact Or.inr (Or.inl (nI_le (by omega) hj))
theorem pk_le {x y : Int32} {A B : Prop} (a b : Nat) (f : a ≤ b → A) (g : b < a → B) (hx : x = nI a := by rfl) (hy : y = nI b := by rfl) (ha : a < 2 ^ 31 := by omega) (hb : b < 2 ^ 31 := by omega) : (x ≤ y → A) ∧ (¬ x ≤ y → B) := by
  subst hx hy
  rw [nI_leI ha hb]
  exact ⟨f, fun z => g (by omega)⟩
theorem pk_lt {x y : Int32} {A B : Prop} (a b : Nat) (f : a < b → A) (g : b ≤ a → B) (hx : x = nI a := by rfl) (hy : y = nI b := by rfl) (ha : a < 2 ^ 31 := by omega) (hb : b < 2 ^ 31 := by omega) : (x < y → A) ∧ (¬ x < y → B) := by
  subst hx hy
  rw [nI_ltI ha hb]
  exact ⟨f, fun z => g (by omega)⟩
theorem pk_eq {x y : Int32} {A B : Prop} (a b : Nat) (f : a = b → A) (g : a ≠ b → B) (hx : x = nI a := by rfl) (hy : y = nI b := by rfl) (ha : a < 2 ^ 31 := by omega) (hb : b < 2 ^ 31 := by omega) : (x = y → A) ∧ (¬ x = y → B) := by
  subst hx hy
  rw [nI_eq ha hb]
  exact ⟨f, g⟩
theorem pk_in {x : Int32} (n N : Nat) (h : n < N) (hx : x = nI n := by rfl) (hN : N < 2 ^ 31 := by omega) : vp_in x N := by
  subst hx
  exact vp_in_nI h hN
theorem pk_cl {x : Int32} (n : Nat) (hx : x = nI n := by rfl) (h : n < 2 ^ 31 := by omega) : x.toNatClampNeg = n := by
  subst hx
  exact nI_clamp h
theorem pk_loop {σ : Type} (W : Nat → Nat → σ → Prop) (I : Nat → σ → Prop) (e i0 : Nat) (s : σ) (hi : i0 ≤ e) (h0 : I i0 s) (hx : ∀ n s, I e s → W (n + 1) e s)
    (hs : ∀ n i s, i < e → I i s → (∀ s', I (i + 1) s' → W n (i + 1) s') → W (n + 1) i s) : ∃ n, W n i0 s :=
  ⟨e + 1, loop_i W I e hx hs (e + 1) i0 s hi (by omega) h0⟩
theorem pk_loopD {σ : Type} (W : Nat → Nat → σ → Prop) (I : Nat → σ → Prop) (hx : ∀ n s, I 0 s → W (n + 1) 0 s)
    (hs : ∀ n i s, I (i + 1) s → (∀ s', I i s' → W n i s') → W (n + 1) (i + 1) s) : ∀ (e : Nat) (s : σ), I e s → W (e + 1) e s := by
  intro e
  induction e with
  | zero => exact fun s h => hx 0 s h
  | succ e ih => exact fun s h => hs (e + 1) e s h (fun s' h' => ih s' h')
theorem pk_least (P : Nat → Prop) (h : ∃ k, P k) : ∃ k, P k ∧ ∀ j, j < k → ¬ P j := by
  obtain ⟨k, hk⟩ := h
  induction k using Nat.strongRecOn with
  | ind k ih =>
    by_cases e : ∃ j, j < k ∧ P j
    · obtain ⟨j, hj, pj⟩ := e
      exact ih j hj pj
    · exact ⟨k, hk, fun j hj pj => e ⟨j, hj, pj⟩⟩
theorem ek_if {c d A B : Prop} (e : c ↔ d) (f : d → A) (g : ¬ d → B) : (c → A) ∧ (¬ c → B) :=
  ⟨fun z => f (e.mp z), fun z => g (fun y => z (e.mpr y))⟩
theorem fx {α V : Type} [Inhabited V] (μ : α → Nat) (F : (α → V) → α → V) : ∃ f : α → V, ∀ a, f a = F (fun b => if μ b < μ a then f b else default) a := by
  refine ⟨(measure μ).wf.fix (fun a r => F (fun b => if h : μ b < μ a then r b h else default) a), fun a => ?_⟩
  rw [WellFounded.fix_eq]
  apply congrArg (fun z => F z a)
  funext b
  by_cases h : μ b < μ a <;> simp [h]
noncomputable def b01 (P : Prop) : Nat := @ite Nat P (Classical.propDecidable P) 1 0
theorem b01_t {P : Prop} (h : P) : b01 P = 1 := by unfold b01; rw [if_pos h]
theorem b01_f {P : Prop} (h : ¬ P) : b01 P = 0 := by unfold b01; rw [if_neg h]
theorem b01_le (P : Prop) : b01 P ≤ 1 := by
  rcases Classical.em P with h | h
  · rw [b01_t h]; omega
  · rw [b01_f h]; omega
theorem b01_mono {P Q : Prop} (h : P → Q) : b01 P ≤ b01 Q := by
  rcases Classical.em P with hp | hp
  · rw [b01_t hp, b01_t (h hp)]; omega
  · rw [b01_f hp]; omega
noncomputable def cn (P : Nat → Prop) : Nat → Nat
  | 0 => 0
  | k + 1 => cn P k + b01 (P k)
theorem cn_mono {P Q : Nat → Prop} : ∀ {N : Nat}, (∀ k, k < N → P k → Q k) → cn P N ≤ cn Q N
  | 0, _ => Nat.le_refl _
  | N + 1, h => by
    have a := cn_mono (P := P) (Q := Q) (N := N) (fun k hk => h k (by omega))
    have b := b01_mono (h N (by omega))
    simp only [cn]; omega
theorem cn_lt {P Q : Nat → Prop} {a : Nat} (hp : ¬ P a) (hq : Q a) : ∀ {N : Nat}, (∀ k, k < N → P k → Q k) → a < N → cn P N < cn Q N
  | 0, _, h => by omega
  | N + 1, h, ha => by
    simp only [cn]
    rcases Nat.lt_or_ge a N with z | z
    · have x := cn_lt hp hq (N := N) (fun k hk => h k (by omega)) z
      have b := b01_mono (h N (by omega))
      omega
    · have e : a = N := by omega
      subst e
      have x := cn_mono (P := P) (Q := Q) (N := a) (fun k hk => h k (by omega))
      rw [b01_t hq, b01_f hp]; omega
theorem cn_le (P : Nat → Prop) : ∀ N, cn P N ≤ N
  | 0 => Nat.le_refl _
  | N + 1 => by have := cn_le P N; have := b01_le (P N); simp only [cn]; omega
/-! numbers -/
theorem bz_nar0 : vp_nar .boolean 0 = 0 := by decide
theorem bz_nar1 : vp_nar .boolean 1 = 1 := by decide
theorem bz_n0 : narrow .boolean (.int 0) = .int 0 := by rfl
theorem bz_n1 : narrow .boolean (.int 1) = .int 1 := by rfl
theorem bz_c0 : (0 : Int32).toNatClampNeg = 0 := by decide
theorem bz_c1 : (1 : Int32).toNatClampNeg = 1 := by decide
theorem bz_ad {x y : Int32} {a b : Nat} (hx : x = nI a) (hy : y = nI b) : x + y = nI (a + b) := by rw [hx, hy, nI_add]
theorem bz_mu {x y : Int32} {a b : Nat} (hx : x = nI a) (hy : y = nI b) : x * y = nI (a * b) := by rw [hx, hy, pk_mul]
theorem bz_su {x y : Int32} {a b : Nat} (hx : x = nI a) (hy : y = nI b) (h : b ≤ a) : x - y = nI (a - b) := by rw [hx, hy, pk_sub h]
theorem bz_s1 {a : Nat} (h : 1 ≤ a) : nI a - 1 = nI (a - 1) := pk_sub (a := a) (b := 1) h
theorem bz_m1 {a : Nat} (h : 1 ≤ a) : nI a + (-1) = nI (a - 1) := by
  obtain ⟨b, rfl⟩ : ∃ b, a = b + 1 := ⟨a - 1, by omega⟩
  exact pk_m1 b
theorem bz_m0 : nI 0 + (-1) = -1 := by decide
theorem bz_i8 (a b : Nat) : nI a * 8 + nI b = nI (a * 8 + b) := by
  rw [show (8 : Int32) = nI 8 from rfl, pk_mul, nI_add]
theorem bz_in {x : Int32} {k N : Nat} (hx : x = nI k) (h : k < N) (hN : N < 2 ^ 31 := by decide) : vp_in x N := by
  subst hx; exact vp_in_nI h hN
theorem bz_cl {x : Int32} {k : Nat} (hx : x = nI k) (h : k < 2 ^ 31) : x.toNatClampNeg = k := by
  subst hx; exact nI_clamp h
theorem bz_neg {x : Int32} (h : x < 0) {k : Nat} (hk : k < 2 ^ 31) : x ≠ nI k := by
  intro e; rw [e] at h; exact nI_pos hk h
theorem bz_or {a b : Nat} (ha : a < 2) (hb : b < 2) : nI a ||| nI b = nI (a ||| b) ∧ (a ||| b) < 2 := by
  have h1 : a = 0 ∨ a = 1 := by omega
  have h2 : b = 0 ∨ b = 1 := by omega
  rcases h1 with rfl | rfl <;> rcases h2 with rfl | rfl <;> decide
/-- an index test: x is within 0..n-1 as a natural, or not -/
theorem bz_rng (x : Int32) {n : Nat} (hn : n < 2 ^ 31) : (∃ j : Nat, j < n ∧ x = nI j) ∨ (x < 0 ∨ (¬ x < 0 ∧ nI n ≤ x)) := by
  by_cases h : x < 0
  · exact Or.inr (Or.inl h)
  · obtain ⟨j, hj, rfl⟩ := nI_of h
    by_cases h2 : j < n
    · exact Or.inl ⟨j, h2, rfl⟩
    · exact Or.inr (Or.inr ⟨h, nI_le (by omega) hj⟩)
/-- two int arrays glued at k -/
def gl (k : Nat) (f g : Nat → Int32) : Nat → Int32 := fun i => if i < k then f i else g (i - k)
theorem gl_lo {k i : Nat} {f g : Nat → Int32} (h : i < k) : gl k f g i = f i := if_pos h
theorem gl_hi {k i : Nat} {f g : Nat → Int32} : gl k f g (k + i) = g i := by
  unfold gl; rw [if_neg (by omega)]; congr 1; omega
theorem gl_ulo {k i : Nat} {f g : Nat → Int32} {x : Int32} (h : i < k) : upd (gl k f g) i x = gl k (upd f i x) g := by
  funext j; unfold gl upd
  by_cases e : j = i
  · subst e; simp [h]
  · by_cases e2 : j < k <;> simp [e, e2]
theorem gl_uhi {k i : Nat} {f g : Nat → Int32} {x : Int32} : upd (gl k f g) (k + i) x = gl k f (upd g i x) := by
  funext j; unfold gl upd
  by_cases e : j = k + i
  · subst e
    have e2 : ¬ (k + i < k) := by omega
    simp [e2]
  · by_cases e2 : j < k
    · simp [e, e2]
    · have e3 : ¬ (j - k = i) := by omega
      simp [e, e2, e3]
theorem bz_uu {f : Nat → Int32} {k : Nat} {x y : Int32} : upd (upd f k x) k y = upd f k y := by
  funext j; unfold upd; by_cases e : j = k <;> simp [e]
theorem bz_u0 {f : Nat → Int32} {k : Nat} {x : Int32} (h : f k = x) : upd f k x = f := by
  funext j; unfold upd; by_cases e : j = k
  · subst e; simp [h]
  · simp [e]
/-- a write of the content's value keeps what holds -/
theorem bz_uk {f : Nat → Int32} {k j : Nat} {x v : Int32} (h1 : j = k → x = v) (h2 : j ≠ k → f j = v) : upd f k x j = v := by
  by_cases e : j = k
  · subst e; rw [pk_us]; exact h1 rfl
  · rw [pk_un e]; exact h2 e
end
section
/-! the program as a walk over its tokens: awaited pieces, ends, bodies, parents; plain naturals -/
def pg_ar (k : Nat) : Nat := if k = 4 then 3 else if k = 2 ∨ k = 3 ∨ k = 5 ∨ k = 13 then 2 else if k = 0 ∨ k = 9 ∨ k = 10 ∨ k = 12 then 0 else 1
def pg_sc (k m : Nat) : Prop := k = 3 ∨ ((k = 4 ∨ k = 5) ∧ 0 < m)
def pg_dp (kd : Nat → Nat) (np : Nat) : Nat → Nat
  | 0 => np + 1
  | i + 1 => pg_dp kd np i + pg_ar (kd i) - 1
def pg_G (kd : Nat → Nat) (np c : Nat) : Prop := ∀ i, i < c → 0 < pg_dp kd np i
def pg_es (kd : Nat → Nat) (c : Nat) : Nat → Nat → Nat → Nat
  | 0, _, _ => c + 1
  | f + 1, d, j => if d + pg_ar (kd j) = 1 then j + 1 else pg_es kd c f (d + pg_ar (kd j) - 1) (j + 1)
def pg_en (kd : Nat → Nat) (c i : Nat) : Nat := pg_es kd c (c - i) 1 i
def pg_st (kd : Nat → Nat) (c : Nat) : Nat → Nat
  | 0 => 0
  | b + 1 => pg_en kd c (pg_st kd c b)
def pg_mn (kd : Nat → Nat) (np : Nat) : Nat → Nat
  | 0 => np + 1
  | i + 1 => min (pg_mn kd np i) (pg_dp kd np (i + 1))
def pg_bd (kd : Nat → Nat) (np i : Nat) : Nat := np + 1 - pg_mn kd np i
def pg_pa (kd : Nat → Nat) (c i : Nat) : Nat → Nat
  | 0 => 0
  | j + 1 => if i < pg_en kd c j then j + 1 else pg_pa kd c i j
def pg_EN (kd : Nat → Nat) (np i j : Nat) : Prop := i < j ∧ pg_dp kd np j + 1 = pg_dp kd np i ∧ ∀ t, i ≤ t → t < j → pg_dp kd np i ≤ pg_dp kd np t
def pg_ec (kd : Nat → Nat) (np j i : Nat) : Prop := ∀ t, j ≤ t → t ≤ i → pg_dp kd np j ≤ pg_dp kd np t
def pg_ch (kd : Nat → Nat) (np j m p : Nat) : Prop := j < p ∧ pg_dp kd np p + m + 1 = pg_dp kd np j + pg_ar (kd j) ∧ m < pg_ar (kd j) ∧ ∀ s, j < s → s < p → pg_dp kd np p < pg_dp kd np s
def pg_rt (kd : Nat → Nat) (np i : Nat) : Prop := ∀ j, j < i → pg_dp kd np i < pg_dp kd np j
def pg_WT (kd : Nat → Nat) (np c : Nat) : Prop := ∀ i, i < c → (∀ j m, pg_ch kd np j m i → (kd i ≤ 8 ↔ pg_sc (kd j) m)) ∧ (pg_rt kd np i → kd i ≤ 8)
theorem pg_ar3 (k : Nat) : pg_ar k ≤ 3 := by unfold pg_ar; split <;> (try split) <;> (try split) <;> omega
section
variable {kd : Nat → Nat} {np c : Nat}
theorem pg_dps {i : Nat} (h : 0 < pg_dp kd np i) : pg_dp kd np (i + 1) + 1 = pg_dp kd np i + pg_ar (kd i) := by
  show pg_dp kd np i + pg_ar (kd i) - 1 + 1 = _
  omega
theorem pg_dpB : ∀ i, pg_dp kd np i ≤ np + 1 + 2 * i
  | 0 => by show np + 1 ≤ _; omega
  | i + 1 => by
    have h := pg_dpB i
    have a := pg_ar3 (kd i)
    show pg_dp kd np i + pg_ar (kd i) - 1 ≤ _
    omega
theorem pg_es_sp (hG : pg_G kd np c) {i : Nat} : ∀ f d j, f = c - j → i ≤ j → j ≤ c → d + pg_dp kd np i = pg_dp kd np j + 1 → (∀ t, i ≤ t → t ≤ j → pg_dp kd np i ≤ pg_dp kd np t) →
    (pg_es kd c f d j = c + 1 ∧ ∀ t, i ≤ t → t ≤ c → pg_dp kd np i ≤ pg_dp kd np t) ∨ (pg_es kd c f d j ≤ c ∧ pg_EN kd np i (pg_es kd c f d j)) := by
  intro f
  induction f with
  | zero =>
    intro d j hf hi hj hd hA
    have e : j = c := by omega
    subst e
    exact Or.inl ⟨rfl, hA⟩
  | succ f ih =>
    intro d j hf hi hj hd hA
    have hp := pg_dps (hG j (by omega))
    have h0 := hA j hi (Nat.le_refl _)
    unfold pg_es
    by_cases e : d + pg_ar (kd j) = 1
    · rw [if_pos e]
      refine Or.inr ⟨by omega, by omega, by omega, fun t h1 h2 => hA t h1 (by omega)⟩
    · rw [if_neg e]
      refine ih _ _ (by omega) (by omega) (by omega) (by omega) ?_
      intro t h1 h2
      by_cases e2 : t = j + 1
      · subst e2; omega
      · exact hA t h1 (by omega)
theorem pg_en_sp (hG : pg_G kd np c) {i : Nat} (hi : i ≤ c) :
    (pg_en kd c i = c + 1 ∧ ∀ t, i ≤ t → t ≤ c → pg_dp kd np i ≤ pg_dp kd np t) ∨ (pg_en kd c i ≤ c ∧ pg_EN kd np i (pg_en kd c i)) := by
  refine pg_es_sp hG _ _ _ rfl (Nat.le_refl _) hi (by omega) ?_
  intro t h1 h2
  have : t = i := by omega
  subst this; exact Nat.le_refl _
theorem pg_en_big {i : Nat} (h : c ≤ i) : pg_en kd c i = c + 1 := by
  unfold pg_en
  rw [show c - i = 0 by omega]
  rfl
theorem pg_es_le : ∀ f d j, f = c - j → pg_es kd c f d j ≤ c + 1 := by
  intro f
  induction f with
  | zero => intro d j _; exact Nat.le_refl _
  | succ f ih =>
    intro d j hf
    unfold pg_es
    split
    · omega
    · exact ih _ _ (by omega)
theorem pg_en_le (i : Nat) : pg_en kd c i ≤ c + 1 := pg_es_le _ _ _ rfl
theorem pg_EN_u {i j j' : Nat} (h : pg_EN kd np i j) (h' : pg_EN kd np i j') : j = j' := by
  rcases Nat.lt_trichotomy j j' with z | z | z
  · have := h'.2.2 j (by have := h.1; omega) z
    have := h.2.1; omega
  · exact z
  · have := h.2.2 j' (by have := h'.1; omega) z
    have := h'.2.1; omega
theorem pg_en_EN (hG : pg_G kd np c) (hc : pg_dp kd np c = 0) {i : Nat} (hi : i < c) : pg_EN kd np i (pg_en kd c i) ∧ pg_en kd c i ≤ c := by
  rcases pg_en_sp hG (Nat.le_of_lt hi) with h | h
  · have := h.2 c (by omega) (Nat.le_refl _)
    have := hG i hi
    omega
  · exact ⟨h.2, h.1⟩
theorem pg_en_eq (hG : pg_G kd np c) {i j : Nat} (hi : i ≤ c) (hj : j ≤ c) (h : pg_EN kd np i j) : pg_en kd c i = j := by
  rcases pg_en_sp hG hi with z | z
  · have := z.2 j (by have := h.1; omega) hj
    have := h.2.1; omega
  · exact pg_EN_u z.2 h
theorem pg_en_gt (hG : pg_G kd np c) {j i : Nat} (hji : j ≤ i) (hi : i ≤ c) : i < pg_en kd c j ↔ pg_ec kd np j i := by
  rcases pg_en_sp hG (Nat.le_trans hji hi) with z | z
  · rw [z.1]
    exact ⟨fun _ t h1 h2 => z.2 t h1 (by omega), fun _ => by omega⟩
  · constructor
    · intro h t h1 h2
      exact z.2.2.2 t h1 (by omega)
    · intro h
      rcases Nat.lt_or_ge i (pg_en kd c j) with w | w
      · exact w
      · have := h _ (Nat.le_of_lt z.2.1) w
        have := z.2.2.1
        omega
theorem pg_st_sp (hG : pg_G kd np c) : ∀ b, b ≤ np + 1 →
    (pg_st kd c b ≤ c ∧ pg_dp kd np (pg_st kd c b) + b = np + 1 ∧ ∀ t, t < pg_st kd c b → np + 1 < pg_dp kd np t + b) ∨ (pg_st kd c b = c + 1 ∧ ∀ t, t ≤ c → np + 1 < pg_dp kd np t + b)
  | 0, _ => Or.inl ⟨Nat.zero_le _, rfl, fun t h => absurd h (Nat.not_lt_zero _)⟩
  | b + 1, hb => by
    show (pg_en kd c (pg_st kd c b) ≤ c ∧ pg_dp kd np (pg_en kd c (pg_st kd c b)) + (b + 1) = np + 1 ∧ ∀ t, t < pg_en kd c (pg_st kd c b) → np + 1 < pg_dp kd np t + (b + 1)) ∨ (pg_en kd c (pg_st kd c b) = c + 1 ∧ ∀ t, t ≤ c → np + 1 < pg_dp kd np t + (b + 1))
    rcases pg_st_sp hG b (by omega) with h | h
    · generalize pg_st kd c b = s at h
      rcases pg_en_sp hG h.1 with z | z
      · refine Or.inr ⟨z.1, fun t ht => ?_⟩
        rcases Nat.lt_or_ge t s with w | w
        · have := h.2.2 t w; omega
        · have := z.2 t w ht; omega
      · refine Or.inl ⟨z.1, by have := z.2.2.1; omega, fun t ht => ?_⟩
        rcases Nat.lt_or_ge t s with w | w
        · have := h.2.2 t w; omega
        · have := z.2.2.2 t w ht; omega
    · rw [h.1, pg_en_big (by omega)]
      exact Or.inr ⟨rfl, fun t ht => by have := h.2 t ht; omega⟩
theorem pg_mn_le : ∀ i t, t ≤ i → pg_mn kd np i ≤ pg_dp kd np t
  | 0, t, h => by
    have : t = 0 := by omega
    subst this; exact Nat.le_refl _
  | i + 1, t, h => by
    show min (pg_mn kd np i) (pg_dp kd np (i + 1)) ≤ _
    by_cases e : t = i + 1
    · subst e; exact Nat.min_le_right _ _
    · exact Nat.le_trans (Nat.min_le_left _ _) (pg_mn_le i t (by omega))
theorem pg_mn_at : ∀ i, ∃ t, t ≤ i ∧ pg_mn kd np i = pg_dp kd np t
  | 0 => ⟨0, Nat.le_refl _, rfl⟩
  | i + 1 => by
    obtain ⟨t, h1, h2⟩ := pg_mn_at i
    show ∃ t, t ≤ i + 1 ∧ min (pg_mn kd np i) (pg_dp kd np (i + 1)) = _
    rcases Nat.le_total (pg_mn kd np i) (pg_dp kd np (i + 1)) with z | z
    · exact ⟨t, by omega, by rw [Nat.min_eq_left z, h2]⟩
    · exact ⟨i + 1, Nat.le_refl _, Nat.min_eq_right z⟩
theorem pg_mn_top (i : Nat) : pg_mn kd np i ≤ np + 1 := pg_mn_le i 0 (Nat.zero_le _)
theorem pg_st_le (hG : pg_G kd np c) {k i : Nat} (hk : k ≤ np + 1) (hi : i ≤ c) : pg_st kd c k ≤ i ↔ k ≤ pg_bd kd np i := by
  unfold pg_bd
  have h0 := pg_mn_top (kd := kd) (np := np) i
  rcases pg_st_sp hG k hk with h | h
  · constructor
    · intro z
      have := pg_mn_le (kd := kd) (np := np) i _ z
      omega
    · intro z
      rcases Nat.lt_or_ge i (pg_st kd c k) with w | w
      · obtain ⟨t, h1, h2⟩ := pg_mn_at (kd := kd) (np := np) i
        have := h.2.2 t (by omega)
        omega
      · exact w
  · obtain ⟨t, h1, h2⟩ := pg_mn_at (kd := kd) (np := np) i
    have := h.2 t (by omega)
    constructor <;> intro z <;> omega
theorem pg_bd_le (hG : pg_G kd np c) {i : Nat} (hi : i < c) : pg_bd kd np i ≤ np := by
  obtain ⟨t, h1, h2⟩ := pg_mn_at (kd := kd) (np := np) i
  have := hG t (by omega)
  unfold pg_bd
  omega
theorem pg_bd_c (hG : pg_G kd np c) : np < pg_bd kd np c ↔ pg_dp kd np c = 0 := by
  obtain ⟨t, h1, h2⟩ := pg_mn_at (kd := kd) (np := np) c
  have h3 := pg_mn_le (kd := kd) (np := np) c c (Nat.le_refl _)
  unfold pg_bd
  constructor
  · intro h
    by_cases e : t = c
    · subst e; omega
    · have := hG t (by omega); omega
  · intro h; omega
theorem pg_bd_top (i : Nat) : pg_bd kd np i ≤ np + 1 := by unfold pg_bd; omega
/-- the start of body b holds that body -/
theorem pg_bd_st (hG : pg_G kd np c) {b : Nat} (hb : b ≤ np) (hs : pg_st kd c b < c) : pg_bd kd np (pg_st kd c b) = b := by
  rcases pg_st_sp hG b (by omega) with h | h
  · unfold pg_bd
    obtain ⟨t, h1, h2⟩ := pg_mn_at (kd := kd) (np := np) (pg_st kd c b)
    have h3 := pg_mn_le (kd := kd) (np := np) (pg_st kd c b) _ (Nat.le_refl _)
    by_cases e : t = pg_st kd c b
    · rw [e] at h2; omega
    · have := h.2.2 t (by omega); omega
  · omega
theorem pg_st_lt (hG : pg_G kd np c) (hc : pg_dp kd np c = 0) {b : Nat} (hb : b ≤ np) : pg_st kd c b < c ∧ pg_rt kd np (pg_st kd c b) ∧ pg_dp kd np (pg_st kd c b) + b = np + 1 := by
  rcases pg_st_sp hG b (by omega) with h | h
  · have : pg_st kd c b ≠ c := by intro e; rw [e] at h; omega
    exact ⟨by omega, fun j hj => by have := h.2.2 j hj; omega, h.2.1⟩
  · have := h.2 c (Nat.le_refl _); omega
theorem pg_rt_st (hG : pg_G kd np c) {i : Nat} (hi : i < c) (h : pg_rt kd np i) : pg_bd kd np i ≤ np ∧ pg_st kd c (pg_bd kd np i) = i ∧ pg_dp kd np i + pg_bd kd np i = np + 1 := by
  have hb := pg_bd_le hG hi
  have e1 : pg_mn kd np i = pg_dp kd np i := by
    obtain ⟨t, h1, h2⟩ := pg_mn_at (kd := kd) (np := np) i
    have h3 := pg_mn_le (kd := kd) (np := np) i i (Nat.le_refl _)
    by_cases e : t = i
    · rw [e] at h2; exact h2
    · have := h t (by omega); omega
  have h0 := pg_mn_top (kd := kd) (np := np) i
  have e2 : pg_dp kd np i + pg_bd kd np i = np + 1 := by unfold pg_bd; omega
  refine ⟨hb, ?_, e2⟩
  rcases pg_st_sp hG (pg_bd kd np i) (by omega) with z | z
  · rcases Nat.lt_trichotomy (pg_st kd c (pg_bd kd np i)) i with w | w | w
    · have := h _ w; omega
    · exact w
    · have := z.2.2 i w; omega
  · have := z.2 i (by omega); omega
theorem pg_pa_sp (hG : pg_G kd np c) {i : Nat} (hi : i ≤ c) : ∀ k, k ≤ i → (pg_pa kd c i k = 0 ∧ ∀ j, j < k → ¬ pg_ec kd np j i) ∨ (∃ j, pg_pa kd c i k = j + 1 ∧ j < k ∧ pg_ec kd np j i ∧ ∀ s, j < s → s < k → ¬ pg_ec kd np s i)
  | 0, _ => Or.inl ⟨rfl, fun j h => absurd h (Nat.not_lt_zero _)⟩
  | k + 1, hk => by
    unfold pg_pa
    have hx := pg_en_gt hG (j := k) (i := i) (by omega) hi
    by_cases e : i < pg_en kd c k
    · rw [if_pos e]
      exact Or.inr ⟨k, rfl, by omega, hx.mp e, fun s h1 h2 => by omega⟩
    · rw [if_neg e]
      have e' : ¬ pg_ec kd np k i := fun z => e (hx.mpr z)
      rcases pg_pa_sp hG hi k (by omega) with z | ⟨j, z1, z2, z3, z4⟩
      · refine Or.inl ⟨z.1, fun j hj => ?_⟩
        by_cases w : j = k
        · subst w; exact e'
        · exact z.2 j (by omega)
      · refine Or.inr ⟨j, z1, by omega, z3, fun s h1 h2 => ?_⟩
        by_cases w : s = k
        · subst w; exact e'
        · exact z4 s h1 (by omega)
theorem pg_last {i lo : Nat} (h : ∀ s, lo ≤ s → s < i → ¬ pg_ec kd np s i) : ∀ k s, i - s ≤ k → lo ≤ s → s < i → pg_dp kd np i < pg_dp kd np s := by
  intro k
  induction k with
  | zero => intro s h1 h2 h3; omega
  | succ k ih =>
    intro s h1 h2 h3
    rcases Nat.lt_or_ge (pg_dp kd np i) (pg_dp kd np s) with w | w
    · exact w
    · refine absurd ?_ (h s h2 h3)
      intro t t1 t2
      by_cases e : t = i
      · subst e; exact w
      · by_cases e2 : t = s
        · subst e2; exact Nat.le_refl _
        · have := ih t (by omega) (by omega) (by omega); omega
theorem pg_ch_ec {j m p : Nat} (h : pg_ch kd np j m p) : pg_ec kd np j p := by
  obtain ⟨h1, h2, h3, h4⟩ := h
  intro t t1 t2
  by_cases e : t = p
  · subst e; omega
  · by_cases e2 : t = j
    · subst e2; exact Nat.le_refl _
    · have := h4 t (by omega) (by omega); omega
theorem pg_ch_of (hG : pg_G kd np c) {j p : Nat} (hp : p ≤ c) (h1 : j < p) (h2 : pg_dp kd np j ≤ pg_dp kd np p) (h3 : ∀ s, j < s → s < p → pg_dp kd np p < pg_dp kd np s) : ∃ m, pg_ch kd np j m p ∧ pg_dp kd np (j + 1) = pg_dp kd np p + m := by
  have hd := pg_dps (hG j (by omega))
  have h4 : pg_dp kd np p ≤ pg_dp kd np (j + 1) := by
    by_cases e : p = j + 1
    · subst e; exact Nat.le_refl _
    · have := h3 (j + 1) (by omega) (by omega); omega
  exact ⟨pg_dp kd np (j + 1) - pg_dp kd np p, ⟨h1, by omega, by omega, h3⟩, by omega⟩
theorem pg_par (hG : pg_G kd np c) {i : Nat} (hi : i ≤ c) : (pg_pa kd c i i = 0 ∧ pg_rt kd np i) ∨ (∃ j m, pg_pa kd c i i = j + 1 ∧ pg_ch kd np j m i) := by
  rcases pg_pa_sp hG hi i (Nat.le_refl _) with z | ⟨j, z1, z2, z3, z4⟩
  · exact Or.inl ⟨z.1, fun j hj => pg_last (lo := 0) (fun s _ h => z.2 s h) _ j (Nat.le_refl _) (Nat.zero_le _) hj⟩
  · obtain ⟨m, hm, _⟩ := pg_ch_of hG hi z2 (z3 i (by omega) (Nat.le_refl _)) (fun s h1 h2 => pg_last (lo := j + 1) (fun s h1 h2 => z4 s h1 h2) _ s (Nat.le_refl _) h1 h2)
    exact Or.inr ⟨j, m, z1, hm⟩
theorem pg_ch_u {j m j' m' p : Nat} (h : pg_ch kd np j m p) (h' : pg_ch kd np j' m' p) : j = j' ∧ m = m' := by
  obtain ⟨h1, h2, h3, h4⟩ := h
  obtain ⟨k1, k2, k3, k4⟩ := h'
  have e : j = j' := by
    rcases Nat.lt_trichotomy j j' with z | z | z
    · have := h4 j' z k1; omega
    · exact z
    · have := k4 j z h1; omega
  subst e
  exact ⟨rfl, by omega⟩
theorem pg_ch_rt {j m p : Nat} (h : pg_ch kd np j m p) (h' : pg_rt kd np p) : False := by
  have := h' j h.1
  have := h.2.1
  have := h.2.2.1
  omega
theorem pg_par_ch (hG : pg_G kd np c) {i j m : Nat} (hi : i ≤ c) (h : pg_ch kd np j m i) : pg_pa kd c i i = j + 1 := by
  rcases pg_par hG hi with z | ⟨j', m', z1, z2⟩
  · exact absurd z.2 (fun w => pg_ch_rt h w)
  · rw [z1, (pg_ch_u h z2).1]
theorem pg_par_rt (hG : pg_G kd np c) {i : Nat} (hi : i ≤ c) (h : pg_rt kd np i) : pg_pa kd c i i = 0 := by
  rcases pg_par hG hi with z | ⟨j', m', z1, z2⟩
  · exact z.1
  · exact absurd h (fun w => pg_ch_rt z2 w)
theorem pg_ch0 {j : Nat} (h0 : 0 < pg_dp kd np j) (h : 0 < pg_ar (kd j)) : pg_ch kd np j 0 (j + 1) := by
  have := pg_dps h0
  exact ⟨by omega, by omega, h, fun s h1 h2 => by omega⟩
theorem pg_chS {j m p q : Nat} (h : pg_ch kd np j m p) (e : pg_EN kd np p q) (hm : m + 1 < pg_ar (kd j)) : pg_ch kd np j (m + 1) q := by
  obtain ⟨h1, h2, h3, h4⟩ := h
  obtain ⟨e1, e2, e3⟩ := e
  refine ⟨by omega, by omega, hm, fun s s1 s2 => ?_⟩
  rcases Nat.lt_or_ge s p with w | w
  · have := h4 s s1 w; omega
  · have := e3 s w s2; omega
theorem pg_chL {j m p q : Nat} (h : pg_ch kd np j m p) (e : pg_EN kd np p q) (hm : m + 1 = pg_ar (kd j)) : pg_EN kd np j q := by
  obtain ⟨h1, h2, h3, h4⟩ := h
  obtain ⟨e1, e2, e3⟩ := e
  refine ⟨by omega, by omega, fun s s1 s2 => ?_⟩
  rcases Nat.lt_or_ge s p with w | w
  · by_cases z : s = j
    · subst z; exact Nat.le_refl _
    · have := h4 s (by omega) w; omega
  · have := e3 s w s2; omega
theorem pg_leaf {j : Nat} (h0 : 0 < pg_dp kd np j) (h : pg_ar (kd j) = 0) : pg_EN kd np j (j + 1) := by
  have := pg_dps h0
  refine ⟨by omega, by omega, fun t t1 t2 => ?_⟩
  have : t = j := by omega
  subst this; exact Nat.le_refl _
/-- a complete program: the places of the children -/
theorem pg_c0 (hG : pg_G kd np c) (hc : pg_dp kd np c = 0) {i : Nat} (hi : i < c) (h : 0 < pg_ar (kd i)) : i + 1 < c ∧ pg_ch kd np i 0 (i + 1) := by
  have h1 := pg_ch0 (hG i hi) h
  have : i + 1 ≠ c := by
    intro e
    have h2 := h1.2.1
    rw [e, hc] at h2
    have := hG i hi
    omega
  exact ⟨by omega, h1⟩
theorem pg_cS (hG : pg_G kd np c) (hc : pg_dp kd np c = 0) {i m p : Nat} (hp : p < c) (h : pg_ch kd np i m p) (hm : m + 1 < pg_ar (kd i)) : pg_en kd c p < c ∧ p < pg_en kd c p ∧ pg_ch kd np i (m + 1) (pg_en kd c p) := by
  obtain ⟨e1, e2⟩ := pg_en_EN hG hc hp
  have h1 := pg_chS h e1 hm
  have : pg_en kd c p ≠ c := by
    intro e
    have h2 := h1.2.1
    rw [e, hc] at h2
    have := hG i (by have := h.1; omega)
    omega
  exact ⟨by omega, e1.1, h1⟩
theorem pg_cL (hG : pg_G kd np c) (hc : pg_dp kd np c = 0) {i m p : Nat} (hp : p < c) (h : pg_ch kd np i m p) (hm : m + 1 = pg_ar (kd i)) : pg_en kd c i = pg_en kd c p := by
  obtain ⟨e1, e2⟩ := pg_en_EN hG hc hp
  exact pg_en_eq hG (by have := h.1; omega) e2 (pg_chL h e1 hm)
theorem pg_c_leaf (hG : pg_G kd np c) {i : Nat} (hi : i < c) (h : pg_ar (kd i) = 0) : pg_en kd c i = i + 1 :=
  pg_en_eq hG (by omega) (by omega) (pg_leaf (hG i hi) h)
/-- tokens inside a piece belong to the piece's body -/
theorem pg_bd_in {i p : Nat} (h1 : i ≤ p) (h : pg_ec kd np i p) : pg_bd kd np p = pg_bd kd np i := by
  unfold pg_bd
  have e : pg_mn kd np p = pg_mn kd np i := by
    obtain ⟨t, t1, t2⟩ := pg_mn_at (kd := kd) (np := np) i
    obtain ⟨s, s1, s2⟩ := pg_mn_at (kd := kd) (np := np) p
    have a1 := pg_mn_le (kd := kd) (np := np) p t (by omega)
    have a2 := pg_mn_le (kd := kd) (np := np) i i (Nat.le_refl _)
    rcases Nat.lt_or_ge s i with w | w
    · have := pg_mn_le (kd := kd) (np := np) i s (by omega); omega
    · have := h s w s1; omega
  rw [e]
theorem pg_dp_congr {kd' : Nat → Nat} : ∀ i, (∀ j, j < i → kd j = kd' j) → pg_dp kd np i = pg_dp kd' np i
  | 0, _ => rfl
  | i + 1, h => by
    show pg_dp kd np i + pg_ar (kd i) - 1 = pg_dp kd' np i + pg_ar (kd' i) - 1
    rw [pg_dp_congr i (fun j hj => h j (by omega)), h i (by omega)]
theorem pg_mn_congr {kd' : Nat → Nat} : ∀ i, (∀ j, j < i → kd j = kd' j) → pg_mn kd np i = pg_mn kd' np i
  | 0, _ => rfl
  | i + 1, h => by
    show min (pg_mn kd np i) (pg_dp kd np (i + 1)) = min (pg_mn kd' np i) (pg_dp kd' np (i + 1))
    rw [pg_mn_congr i (fun j hj => h j (by omega)), pg_dp_congr (i + 1) h]
theorem pg_bd_congr {kd' : Nat → Nat} {i : Nat} (h : ∀ j, j < i → kd j = kd' j) : pg_bd kd np i = pg_bd kd' np i := by
  unfold pg_bd; rw [pg_mn_congr i h]
theorem pg_ch_congr {kd' : Nat → Nat} {j m p : Nat} (h : ∀ t, t < p → kd t = kd' t) : pg_ch kd np j m p → pg_ch kd' np j m p := by
  intro ⟨h1, h2, h3, h4⟩
  have e : ∀ t, t ≤ p → pg_dp kd' np t = pg_dp kd np t := fun t ht => (pg_dp_congr t (fun j hj => h j (by omega))).symm
  have ek := h j h1
  refine ⟨h1, by rw [e p (by omega), e j (by omega), ← ek]; exact h2, by rw [← ek]; exact h3, fun s s1 s2 => ?_⟩
  rw [e p (by omega), e s (by omega)]; exact h4 s s1 s2
theorem pg_rt_congr {kd' : Nat → Nat} {p : Nat} (h : ∀ t, t < p → kd t = kd' t) : pg_rt kd np p → pg_rt kd' np p := by
  intro z j hj
  have e : ∀ t, t ≤ p → pg_dp kd' np t = pg_dp kd np t := fun t ht => (pg_dp_congr t (fun j hj => h j (by omega))).symm
  rw [e p (by omega), e j (by omega)]; exact z j hj
end
end
section
/-! complete typed programs: where the children stand and of what sort they are -/
def pg_C (kd : Nat → Nat) (np c : Nat) : Prop := pg_G kd np c ∧ pg_dp kd np c = 0 ∧ pg_WT kd np c
section
variable {kd : Nat → Nat} {np c : Nat}
theorem pg_ar1 {k : Nat} (h : k = 1 ∨ k = 6 ∨ k = 7 ∨ k = 8 ∨ k = 11 ∨ k = 14) : pg_ar k = 1 := by
  rcases h with rfl | rfl | rfl | rfl | rfl | rfl <;> rfl
theorem pg_ar2 {k : Nat} (h : k = 2 ∨ k = 3 ∨ k = 5 ∨ k = 13) : pg_ar k = 2 := by
  rcases h with rfl | rfl | rfl | rfl <;> rfl
theorem pg_ar0 {k : Nat} (h : k = 0 ∨ k = 9 ∨ k = 10 ∨ k = 12) : pg_ar k = 0 := by
  rcases h with rfl | rfl | rfl | rfl <;> rfl
theorem pg_k0 (C : pg_C kd np c) {i : Nat} (hi : i < c) (h : kd i = 0 ∨ kd i = 9 ∨ kd i = 10 ∨ kd i = 12) : pg_en kd c i = i + 1 :=
  pg_c_leaf C.1 hi (pg_ar0 h)
theorem pg_k1 (C : pg_C kd np c) {i : Nat} (hi : i < c) (h : kd i = 1 ∨ kd i = 6 ∨ kd i = 7 ∨ kd i = 8 ∨ kd i = 11 ∨ kd i = 14) :
    i + 1 < c ∧ 9 ≤ kd (i + 1) ∧ pg_en kd c i = pg_en kd c (i + 1) := by
  have ha := pg_ar1 h
  obtain ⟨a1, a2⟩ := pg_c0 C.1 C.2.1 hi (by omega)
  refine ⟨a1, ?_, pg_cL C.1 C.2.1 a1 a2 (by omega)⟩
  have := ((C.2.2 _ a1).1 _ _ a2)
  unfold pg_sc at this
  omega
theorem pg_k2 (C : pg_C kd np c) {i : Nat} (hi : i < c) (h : kd i = 2 ∨ kd i = 13) :
    i + 1 < c ∧ 9 ≤ kd (i + 1) ∧ i + 1 < pg_en kd c (i + 1) ∧ pg_en kd c (i + 1) < c ∧ 9 ≤ kd (pg_en kd c (i + 1)) ∧ pg_en kd c i = pg_en kd c (pg_en kd c (i + 1)) := by
  have ha : pg_ar (kd i) = 2 := pg_ar2 (by omega)
  obtain ⟨a1, a2⟩ := pg_c0 C.1 C.2.1 hi (by omega)
  obtain ⟨b1, b2, b3⟩ := pg_cS C.1 C.2.1 a1 a2 (by omega)
  have h1 := ((C.2.2 _ a1).1 _ _ a2)
  have h2 := ((C.2.2 _ b1).1 _ _ b3)
  unfold pg_sc at h1 h2
  exact ⟨a1, by omega, b2, b1, by omega, pg_cL C.1 C.2.1 b1 b3 (by omega)⟩
theorem pg_k3 (C : pg_C kd np c) {i : Nat} (hi : i < c) (h : kd i = 3) :
    i + 1 < c ∧ kd (i + 1) ≤ 8 ∧ i + 1 < pg_en kd c (i + 1) ∧ pg_en kd c (i + 1) < c ∧ kd (pg_en kd c (i + 1)) ≤ 8 ∧ pg_en kd c i = pg_en kd c (pg_en kd c (i + 1)) ∧ pg_ch kd np i 0 (i + 1) ∧ pg_ch kd np i 1 (pg_en kd c (i + 1)) := by
  have ha : pg_ar (kd i) = 2 := pg_ar2 (by omega)
  obtain ⟨a1, a2⟩ := pg_c0 C.1 C.2.1 hi (by omega)
  obtain ⟨b1, b2, b3⟩ := pg_cS C.1 C.2.1 a1 a2 (by omega)
  have h1 := ((C.2.2 _ a1).1 _ _ a2)
  have h2 := ((C.2.2 _ b1).1 _ _ b3)
  unfold pg_sc at h1 h2
  exact ⟨a1, by omega, b2, b1, by omega, pg_cL C.1 C.2.1 b1 b3 (by omega), a2, b3⟩
theorem pg_k5 (C : pg_C kd np c) {i : Nat} (hi : i < c) (h : kd i = 4 ∨ kd i = 5) :
    i + 1 < c ∧ 9 ≤ kd (i + 1) ∧ i + 1 < pg_en kd c (i + 1) ∧ pg_en kd c (i + 1) < c ∧ kd (pg_en kd c (i + 1)) ≤ 8 ∧ pg_ch kd np i 0 (i + 1) ∧ pg_ch kd np i 1 (pg_en kd c (i + 1)) ∧ pg_en kd c (pg_en kd c (i + 1)) ≤ pg_en kd c i := by
  have ha : pg_ar (kd i) = 2 ∨ pg_ar (kd i) = 3 := by
    rcases h with h | h
    · right; rw [h]; rfl
    · left; rw [h]; rfl
  obtain ⟨a1, a2⟩ := pg_c0 C.1 C.2.1 hi (by omega)
  obtain ⟨b1, b2, b3⟩ := pg_cS C.1 C.2.1 a1 a2 (by omega)
  have h1 := ((C.2.2 _ a1).1 _ _ a2)
  have h2 := ((C.2.2 _ b1).1 _ _ b3)
  unfold pg_sc at h1 h2
  refine ⟨a1, by omega, b2, b1, by omega, a2, b3, ?_⟩
  rcases ha with z | z
  · exact Nat.le_of_eq (pg_cL C.1 C.2.1 b1 b3 (by omega)).symm
  · obtain ⟨d1, d2, d3⟩ := pg_cS C.1 C.2.1 b1 b3 (by omega)
    rw [pg_cL C.1 C.2.1 d1 d3 (by omega)]
    exact Nat.le_of_lt (pg_en_EN C.1 C.2.1 d1).1.1
theorem pg_k5w (C : pg_C kd np c) {i : Nat} (hi : i < c) (h : kd i = 5) : pg_en kd c i = pg_en kd c (pg_en kd c (i + 1)) := by
  obtain ⟨a1, a2, a3, a4, a5, a6, a7, a8⟩ := pg_k5 C hi (Or.inr h)
  exact pg_cL C.1 C.2.1 a4 a7 (by rw [h]; rfl)
theorem pg_k4 (C : pg_C kd np c) {i : Nat} (hi : i < c) (h : kd i = 4) :
    pg_en kd c (i + 1) < pg_en kd c (pg_en kd c (i + 1)) ∧ pg_en kd c (pg_en kd c (i + 1)) < c ∧ kd (pg_en kd c (pg_en kd c (i + 1))) ≤ 8 ∧ pg_ch kd np i 2 (pg_en kd c (pg_en kd c (i + 1))) ∧ pg_en kd c i = pg_en kd c (pg_en kd c (pg_en kd c (i + 1))) := by
  have ha : pg_ar (kd i) = 3 := by rw [h]; rfl
  obtain ⟨a1, a2, a3, a4, a5, a6, a7, a8⟩ := pg_k5 C hi (Or.inl h)
  obtain ⟨b1, b2, b3⟩ := pg_cS C.1 C.2.1 a4 a7 (by omega)
  have h1 := ((C.2.2 _ b1).1 _ _ b3)
  unfold pg_sc at h1
  exact ⟨b2, b1, by omega, b3, pg_cL C.1 C.2.1 b1 b3 (by omega)⟩
theorem pg_enlt (C : pg_C kd np c) {i : Nat} (hi : i < c) : i < pg_en kd c i ∧ pg_en kd c i ≤ c :=
  ⟨(pg_en_EN C.1 C.2.1 hi).1.1, (pg_en_EN C.1 C.2.1 hi).2⟩
/-- a statement is a body's root or a child of SEQ, IF, WHILE -/
theorem pg_up (C : pg_C kd np c) {i : Nat} (hi : i < c) (h : kd i ≤ 8) : pg_rt kd np i ∨ ∃ j m, pg_ch kd np j m i ∧ j < i ∧ kd j ≤ 8 ∧ (kd j = 3 ∨ ((kd j = 4 ∨ kd j = 5) ∧ 0 < m)) := by
  rcases pg_par C.1 (Nat.le_of_lt hi) with z | ⟨j, m, z1, z2⟩
  · exact Or.inl z.2
  · have := ((C.2.2 _ hi).1 _ _ z2)
    unfold pg_sc at this
    exact Or.inr ⟨j, m, z2, z2.1, by omega, by omega⟩
theorem pg_rt8 (C : pg_C kd np c) {i : Nat} (hi : i < c) (h : pg_rt kd np i) : kd i ≤ 8 := (C.2.2 _ hi).2 h
end
end
section
/-! a finite join semilattice; levels of the tokens; closed maps; the least one -/
def sm_L (N : Nat) (J : Nat → Nat → Nat) (b : Nat) : Prop :=
  b < N ∧ (∀ x y, x < N → y < N → J x y < N) ∧ (∀ x, x < N → J x x = x) ∧ (∀ x y, x < N → y < N → J x y = J y x) ∧
  (∀ x y z, x < N → y < N → z < N → J (J x y) z = J x (J y z)) ∧ (∀ x, x < N → J b x = x)
section
variable {N : Nat} {J : Nat → Nat → Nat} {b : Nat}
theorem sm_tr (L : sm_L N J b) {x y z : Nat} (hx : x < N) (hy : y < N) (hz : z < N) (h1 : J x y = y) (h2 : J y z = z) : J x z = z := by
  obtain ⟨l1, l2, l3, l4, l5, l6⟩ := L
  rw [← h2, ← l5 _ _ _ hx hy hz, h1]
theorem sm_an (L : sm_L N J b) {x y : Nat} (hx : x < N) (hy : y < N) (h1 : J x y = y) (h2 : J y x = x) : x = y := by
  obtain ⟨l1, l2, l3, l4, l5, l6⟩ := L
  rw [← h1, l4 _ _ hx hy, h2]
theorem sm_l (L : sm_L N J b) {x y : Nat} (hx : x < N) (hy : y < N) : J x (J x y) = J x y := by
  obtain ⟨l1, l2, l3, l4, l5, l6⟩ := L
  rw [← l5 _ _ _ hx hx hy, l3 _ hx]
theorem sm_r (L : sm_L N J b) {x y : Nat} (hx : x < N) (hy : y < N) : J y (J x y) = J x y := by
  have l4 := L.2.2.2.1
  rw [l4 _ _ hx hy]; exact sm_l L hy hx
theorem sm_u (L : sm_L N J b) {x y z : Nat} (hx : x < N) (hy : y < N) (hz : z < N) (h1 : J x z = z) (h2 : J y z = z) : J (J x y) z = z := by
  obtain ⟨l1, l2, l3, l4, l5, l6⟩ := L
  rw [l5 _ _ _ hx hy hz, h2, h1]
theorem sm_m (L : sm_L N J b) {x y x' y' : Nat} (hx : x < N) (hy : y < N) (hx' : x' < N) (hy' : y' < N) (h1 : J x x' = x') (h2 : J y y' = y') : J (J x y) (J x' y') = J x' y' :=
  sm_u L hx hy (L.2.1 _ _ hx' hy') (sm_tr L hx hx' (L.2.1 _ _ hx' hy') h1 (sm_l L hx' hy')) (sm_tr L hy hy' (L.2.1 _ _ hx' hy') h2 (sm_r L hx' hy'))
noncomputable def sm_ht (N : Nat) (J : Nat → Nat → Nat) (x : Nat) : Nat := cn (fun y => J y x = x) N
theorem sm_htle (x : Nat) : sm_ht N J x ≤ N := cn_le _ _
theorem sm_htm (L : sm_L N J b) {x y : Nat} (hx : x < N) (hy : y < N) (h : J x y = y) : sm_ht N J x ≤ sm_ht N J y :=
  cn_mono (fun _ hk hz => sm_tr L hk hx hy hz h)
theorem sm_hts (L : sm_L N J b) {x y : Nat} (hx : x < N) (hy : y < N) (h : J x y = y) (hn : x ≠ y) : sm_ht N J x < sm_ht N J y :=
  cn_lt (P := fun z => J z x = x) (Q := fun z => J z y = y) (a := y) (fun z => hn (sm_an L hx hy h z)) (L.2.2.1 _ hy) (fun _ hk hz => sm_tr L hk hx hy hz h) hy
theorem sm_ht1 (L : sm_L N J b) {x : Nat} (hx : x < N) : 1 ≤ sm_ht N J x := by
  have : cn (fun _ => False) N < sm_ht N J x := cn_lt (P := fun _ => False) (Q := fun z => J z x = x) (a := x) (fun z => z) (L.2.2.1 _ hx) (fun _ _ hz => absurd hz (fun w => w)) hx
  omega
noncomputable def sm_M (N : Nat) (J : Nat → Nat → Nat) (s : Nat → Nat) : Nat → Nat
  | 0 => 0
  | k + 1 => sm_M N J s k + sm_ht N J (s k)
theorem sm_Mm (L : sm_L N J b) {s s' : Nat → Nat} : ∀ {ns : Nat}, (∀ k, k < ns → s k < N) → (∀ k, k < ns → s' k < N) → (∀ k, k < ns → J (s k) (s' k) = s' k) → sm_M N J s ns ≤ sm_M N J s' ns
  | 0, _, _, _ => Nat.le_refl _
  | ns + 1, h1, h2, h3 => by
    have a := sm_Mm L (ns := ns) (fun k hk => h1 k (by omega)) (fun k hk => h2 k (by omega)) (fun k hk => h3 k (by omega))
    have b := sm_htm L (h1 ns (by omega)) (h2 ns (by omega)) (h3 ns (by omega))
    simp only [sm_M]; omega
theorem sm_Ms (L : sm_L N J b) {s s' : Nat → Nat} {q : Nat} (hq : s q ≠ s' q) : ∀ {ns : Nat}, q < ns → (∀ k, k < ns → s k < N) → (∀ k, k < ns → s' k < N) → (∀ k, k < ns → J (s k) (s' k) = s' k) → sm_M N J s ns < sm_M N J s' ns
  | 0, h, _, _, _ => by omega
  | ns + 1, h, h1, h2, h3 => by
    simp only [sm_M]
    by_cases e : q = ns
    · subst e
      have a := sm_Mm L (ns := q) (fun k hk => h1 k (by omega)) (fun k hk => h2 k (by omega)) (fun k hk => h3 k (by omega))
      have b := sm_hts L (h1 q (by omega)) (h2 q (by omega)) (h3 q (by omega)) hq
      omega
    · have a := sm_Ms L hq (ns := ns) (by omega) (fun k hk => h1 k (by omega)) (fun k hk => h2 k (by omega)) (fun k hk => h3 k (by omega))
      have b := sm_htm L (h1 ns (by omega)) (h2 ns (by omega)) (h3 ns (by omega))
      omega
theorem sm_Mle (s : Nat → Nat) : ∀ ns, sm_M N J s ns ≤ ns * N
  | 0 => by simp [sm_M]
  | ns + 1 => by
    have a := sm_Mle s ns
    have b := sm_htle (N := N) (J := J) (s ns)
    simp only [sm_M, Nat.succ_mul]; omega
theorem sm_M1 (L : sm_L N J b) {s : Nat → Nat} : ∀ {ns : Nat}, (∀ k, k < ns → s k < N) → ns ≤ sm_M N J s ns
  | 0, _ => Nat.le_refl _
  | ns + 1, h => by
    have a := sm_M1 L (ns := ns) (fun k hk => h k (by omega))
    have b := sm_ht1 L (h ns (by omega))
    simp only [sm_M]; omega
end
end
section
/-! levels of tokens: equations, existence, bounds, monotony, and the fold of the reference -/
def sm_E (kd fA : Nat → Nat) (nv na np c : Nat) (J : Nat → Nat → Nat) (b : Nat) (dl s t : Nat → Nat) (i : Nat) : Prop :=
  (kd i = 9 → t i = b) ∧ (kd i = 10 → t i = s (fA i)) ∧ (kd i = 11 → t i = J (s (nv + fA i)) (t (i + 1))) ∧ (kd i = 12 → t i = s (nv + na + 3 * pg_bd kd np i + 1)) ∧
  (kd i = 13 → t i = J (t (i + 1)) (t (pg_en kd c (i + 1)))) ∧ (kd i = 14 → t i = dl i)
def sm_bs (kd : Nat → Nat) (nv na np b : Nat) (s : Nat → Nat) (i : Nat) : Nat := if pg_bd kd np i < np then s (nv + na + 3 * pg_bd kd np i) else b
def sm_P (kd : Nat → Nat) (nv na np : Nat) (J : Nat → Nat → Nat) (b : Nat) (s t : Nat → Nat) (i : Nat) : Prop :=
  (pg_rt kd np i → t i = sm_bs kd nv na np b s i) ∧ (∀ j m, pg_ch kd np j m i → t i = if kd j = 4 ∨ kd j = 5 then J (t j) (t (j + 1)) else t j)
def sm_T (kd fA : Nat → Nat) (nv na np c : Nat) (J : Nat → Nat → Nat) (b : Nat) (dl s t : Nat → Nat) : Prop :=
  ∀ i, i < c → (9 ≤ kd i → sm_E kd fA nv na np c J b dl s t i) ∧ (kd i ≤ 8 → sm_P kd nv na np J b s t i)
def sm_F (kd fA fB : Nat → Nat) (n nv na np c : Nat) : Prop := ∀ i, i < c → kd i < 15 ∧ (kd i = 1 ∨ kd i = 10 → fA i < nv) ∧ (kd i = 2 ∨ kd i = 11 → fA i < na) ∧
  (kd i = 6 → fA i < np ∧ fB i < nv) ∧ (kd i = 8 ∨ kd i = 14 → fA i < n) ∧ (kd i = 13 → fA i < 7) ∧ (kd i = 7 ∨ kd i = 12 → pg_bd kd np i < np)
theorem pg_ie {kd : Nat → Nat} {c : Nat} {P : Nat → Prop} (h : ∀ i, i < c → 9 ≤ kd i → (∀ p, i < p → p < c → 9 ≤ kd p → P p) → P i) : ∀ i, i < c → 9 ≤ kd i → P i := by
  have key : ∀ k i, c - i ≤ k → i < c → 9 ≤ kd i → P i := by
    intro k
    induction k with
    | zero => intro i h1 h2; omega
    | succ k ih => intro i h1 h2 h3; exact h i h2 h3 (fun p p1 p2 p3 => ih p (by omega) p2 p3)
  exact fun i => key _ i (Nat.le_refl _)
theorem pg_is {kd : Nat → Nat} {c : Nat} {P : Nat → Prop} (h : ∀ i, i < c → kd i ≤ 8 → (∀ p, p < i → kd p ≤ 8 → P p) → P i) : ∀ i, i < c → kd i ≤ 8 → P i := by
  intro i
  induction i using Nat.strongRecOn with
  | ind i ih => intro h1 h2; exact h i h1 h2 (fun p p1 p2 => ih p p1 (by omega) p2)
section
variable {kd fA fB : Nat → Nat} {n nv na np c N : Nat} {J : Nat → Nat → Nat} {b : Nat} {dl : Nat → Nat}
theorem sm_ex (C : pg_C kd np c) (s : Nat → Nat) : ∃ t, sm_T kd fA nv na np c J b dl s t := by
  obtain ⟨f, hf⟩ := fx (α := Nat) (V := Nat) (fun i => if 9 ≤ kd i then c - i else c + 1 + i) (fun f i => if 9 ≤ kd i then (if kd i = 10 then s (fA i) else if kd i = 11 then J (s (nv + fA i)) (f (i + 1)) else if kd i = 12 then s (nv + na + 3 * pg_bd kd np i + 1) else if kd i = 13 then J (f (i + 1)) (f (pg_en kd c (i + 1))) else if kd i = 14 then dl i else b) else (if pg_pa kd c i i = 0 then sm_bs kd nv na np b s i else (if kd (pg_pa kd c i i - 1) = 4 ∨ kd (pg_pa kd c i i - 1) = 5 then J (f (pg_pa kd c i i - 1)) (f (pg_pa kd c i i - 1 + 1)) else f (pg_pa kd c i i - 1))))
  refine ⟨f, fun i hi => ⟨fun h => ?_, fun h => ?_⟩⟩
  · have e := hf i
    dsimp only at e
    refine ⟨fun hk => ?_, fun hk => ?_, fun hk => ?_, fun hk => ?_, fun hk => ?_, fun hk => ?_⟩
    · rw [e]; simp [hk]
    · rw [e]; simp [hk]
    · obtain ⟨a1, a2, a3⟩ := pg_k1 C hi (by omega)
      have a4 : c - (i + 1) < c - i := by omega
      rw [e]; simp [hk, a2, a4]
    · rw [e]; simp [hk]
    · obtain ⟨a1, a2, a3, a4, a5, a6⟩ := pg_k2 C hi (by omega)
      have a7 : c - (i + 1) < c - i := by omega
      have a8 : c - pg_en kd c (i + 1) < c - i := by omega
      rw [e]; simp [hk, a2, a5, a7, a8]
    · rw [e]; simp [hk]
  · have e := hf i
    dsimp only at e
    have hn : ¬ 9 ≤ kd i := by omega
    rw [if_neg hn] at e
    refine ⟨fun hr => ?_, fun j m hc => ?_⟩
    · rw [pg_par_rt C.1 (Nat.le_of_lt hi) hr, if_pos rfl] at e
      exact e
    · rw [pg_par_ch C.1 (Nat.le_of_lt hi) hc, if_neg (by omega), Nat.add_sub_cancel] at e
      have hs := ((C.2.2 _ hi).1 _ _ hc).mp h
      unfold pg_sc at hs
      have hj := hc.1
      have hj8 : ¬ 9 ≤ kd j := by omega
      have h1 : c + 1 + j < c + 1 + i := by omega
      rw [e]
      by_cases z : kd j = 4 ∨ kd j = 5
      · rw [if_pos z, if_pos z]
        obtain ⟨a1, a2, _⟩ := pg_k5 C (by omega) z
        have h2 : c - (j + 1) < c + 1 + i := by omega
        simp [hj8, hn, h1, a2, h2]
      · rw [if_neg z, if_neg z]
        simp [hj8, hn, h1]
theorem sm_tb (C : pg_C kd np c) (F : sm_F kd fA fB n nv na np c) (L : sm_L N J b) {s t : Nat → Nat} (T : sm_T kd fA nv na np c J b dl s t)
    (hs : ∀ k, k < nv + na + 3 * np → s k < N) (hd : ∀ i, i < c → kd i = 14 → dl i < N) : ∀ i, i < c → t i < N := by
  obtain ⟨l1, l2, l3, l4, l5, l6⟩ := L
  have he : ∀ i, i < c → 9 ≤ kd i → t i < N := by
    refine pg_ie ?_
    intro i hi h9 ih
    obtain ⟨e1, e2, e3, e4, e5, e6⟩ := (T i hi).1 h9
    obtain ⟨f1, f2, f3, f4, f5, f6, f7⟩ := F i hi
    have hk : kd i = 9 ∨ kd i = 10 ∨ kd i = 11 ∨ kd i = 12 ∨ kd i = 13 ∨ kd i = 14 := by omega
    rcases hk with hk | hk | hk | hk | hk | hk
    · rw [e1 hk]; exact l1
    · rw [e2 hk]; exact hs _ (by have := f2 (Or.inr hk); omega)
    · obtain ⟨a1, a2, a3⟩ := pg_k1 C hi (by omega)
      rw [e3 hk]; exact l2 _ _ (hs _ (by have := f3 (Or.inr hk); omega)) (ih _ (by omega) a1 a2)
    · rw [e4 hk]; exact hs _ (by have := f7 (Or.inr hk); omega)
    · obtain ⟨a1, a2, a3, a4, a5, a6⟩ := pg_k2 C hi (by omega)
      rw [e5 hk]; exact l2 _ _ (ih _ (by omega) a1 a2) (ih _ (by omega) a4 a5)
    · rw [e6 hk]; exact hd i hi hk
  have hp : ∀ i, i < c → kd i ≤ 8 → t i < N := by
    refine pg_is ?_
    intro i hi h8 ih
    obtain ⟨p1, p2⟩ := (T i hi).2 h8
    rcases pg_up C hi h8 with hr | ⟨j, m, hc, hji, hj8, hj⟩
    · rw [p1 hr]; unfold sm_bs
      split
      · exact hs _ (by omega)
      · exact l1
    · rw [p2 j m hc]
      split
      · rename_i z
        obtain ⟨a1, a2, _⟩ := pg_k5 C (by omega) z
        exact l2 _ _ (ih j hji hj8) (he _ a1 a2)
      · exact ih j hji hj8
  intro i hi
  rcases Nat.lt_or_ge (kd i) 9 with z | z
  · exact hp i hi (by omega)
  · exact he i hi z
theorem sm_tm (C : pg_C kd np c) (F : sm_F kd fA fB n nv na np c) (L : sm_L N J b) {s t s' t' : Nat → Nat} (T : sm_T kd fA nv na np c J b dl s t) (T' : sm_T kd fA nv na np c J b dl s' t')
    (hs : ∀ k, k < nv + na + 3 * np → s k < N) (hs' : ∀ k, k < nv + na + 3 * np → s' k < N) (hd : ∀ i, i < c → kd i = 14 → dl i < N)
    (hl : ∀ k, k < nv + na + 3 * np → J (s k) (s' k) = s' k) : ∀ i, i < c → J (t i) (t' i) = t' i := by
  have tb := sm_tb C F L T hs hd
  have tb' := sm_tb C F L T' hs' hd
  have l1 := L.1
  have l3 := L.2.2.1
  have he : ∀ i, i < c → 9 ≤ kd i → J (t i) (t' i) = t' i := by
    refine pg_ie ?_
    intro i hi h9 ih
    obtain ⟨e1, e2, e3, e4, e5, e6⟩ := (T i hi).1 h9
    obtain ⟨g1, g2, g3, g4, g5, g6⟩ := (T' i hi).1 h9
    obtain ⟨f1, f2, f3, f4, f5, f6, f7⟩ := F i hi
    have hk : kd i = 9 ∨ kd i = 10 ∨ kd i = 11 ∨ kd i = 12 ∨ kd i = 13 ∨ kd i = 14 := by omega
    rcases hk with hk | hk | hk | hk | hk | hk
    · rw [e1 hk, g1 hk]; exact l3 _ l1
    · rw [e2 hk, g2 hk]; exact hl _ (by have := f2 (Or.inr hk); omega)
    · obtain ⟨a1, a2, a3⟩ := pg_k1 C hi (by omega)
      have q : nv + fA i < nv + na + 3 * np := by have := f3 (Or.inr hk); omega
      rw [e3 hk, g3 hk]
      exact sm_m L (hs _ q) (tb _ a1) (hs' _ q) (tb' _ a1) (hl _ q) (ih _ (by omega) a1 a2)
    · rw [e4 hk, g4 hk]; exact hl _ (by have := f7 (Or.inr hk); omega)
    · obtain ⟨a1, a2, a3, a4, a5, a6⟩ := pg_k2 C hi (by omega)
      rw [e5 hk, g5 hk]
      exact sm_m L (tb _ a1) (tb _ a4) (tb' _ a1) (tb' _ a4) (ih _ (by omega) a1 a2) (ih _ (by omega) a4 a5)
    · rw [e6 hk, g6 hk]; exact l3 _ (hd i hi hk)
  have hp : ∀ i, i < c → kd i ≤ 8 → J (t i) (t' i) = t' i := by
    refine pg_is ?_
    intro i hi h8 ih
    obtain ⟨p1, p2⟩ := (T i hi).2 h8
    obtain ⟨q1, q2⟩ := (T' i hi).2 h8
    rcases pg_up C hi h8 with hr | ⟨j, m, hc, hji, hj8, hj⟩
    · rw [p1 hr, q1 hr]; unfold sm_bs
      split
      · exact hl _ (by omega)
      · exact l3 _ l1
    · rw [p2 j m hc, q2 j m hc]
      split
      · rename_i z
        obtain ⟨a1, a2, _⟩ := pg_k5 C (by omega) z
        exact sm_m L (tb _ (by omega)) (tb _ a1) (tb' _ (by omega)) (tb' _ a1) (ih j hji hj8) (he _ a1 a2)
      · exact ih j hji hj8
  intro i hi
  rcases Nat.lt_or_ge (kd i) 9 with z | z
  · exact hp i hi (by omega)
  · exact he i hi z
def sm_f (kd : Nat → Nat) (c : Nat) (J : Nat → Nat → Nat) (t : Nat → Nat) (i r : Nat) : Nat → Nat
  | 0 => r
  | j + 1 => if (kd j = 4 ∨ kd j = 5) ∧ i < pg_en kd c j then J (sm_f kd c J t i r j) (t (j + 1)) else sm_f kd c J t i r j
theorem sm_f_skip {t : Nat → Nat} {i r q : Nat} (h : ∀ j, q ≤ j → j < i → ¬ i < pg_en kd c j) : ∀ k, k ≤ i → q ≤ k → sm_f kd c J t i r k = sm_f kd c J t i r q := by
  intro k
  induction k with
  | zero =>
    intro h1 h2
    have : q = 0 := by omega
    rw [this]
  | succ k ih =>
    intro h1 h2
    by_cases e : q = k + 1
    · rw [e]
    · show (if (kd k = 4 ∨ kd k = 5) ∧ i < pg_en kd c k then _ else _) = _
      rw [if_neg (fun z => h k (by omega) (by omega) z.2)]
      exact ih (by omega) (by omega)
theorem sm_f_cong {t : Nat → Nat} {i i' r : Nat} : ∀ k, (∀ j, j < k → (i < pg_en kd c j ↔ i' < pg_en kd c j)) → sm_f kd c J t i r k = sm_f kd c J t i' r k := by
  intro k
  induction k with
  | zero => intro _; rfl
  | succ k ih =>
    intro h
    show (if (kd k = 4 ∨ kd k = 5) ∧ i < pg_en kd c k then _ else _) = (if (kd k = 4 ∨ kd k = 5) ∧ i' < pg_en kd c k then _ else _)
    rw [ih (fun j hj => h j (by omega))]
    have := h k (by omega)
    by_cases z : (kd k = 4 ∨ kd k = 5) ∧ i < pg_en kd c k
    · rw [if_pos z, if_pos ⟨z.1, this.mp z.2⟩]
    · rw [if_neg z, if_neg (fun w => z ⟨w.1, this.mpr w.2⟩)]
theorem sm_fold (C : pg_C kd np c) {s t : Nat → Nat} (T : sm_T kd fA nv na np c J b dl s t) : ∀ i, i < c → kd i ≤ 8 → sm_f kd c J t i (sm_bs kd nv na np b s i) i = t i := by
  refine pg_is ?_
  intro i hi h8 ih
  obtain ⟨p1, p2⟩ := (T i hi).2 h8
  rcases pg_up C hi h8 with hr | ⟨q, m, hc, hji, hj8, hj⟩
  · rw [p1 hr]
    refine sm_f_skip (q := 0) (fun j _ hj => ?_) i (Nat.le_refl _) (Nat.zero_le _)
    rw [pg_en_gt C.1 (Nat.le_of_lt hj) (Nat.le_of_lt hi)]
    intro z
    have := z i (by omega) (Nat.le_refl _)
    have := hr j hj
    omega
  · have hec := pg_ch_ec hc
    rw [p2 q m hc, ← ih q hji hj8]
    have hb : sm_bs kd nv na np b s i = sm_bs kd nv na np b s q := by
      unfold sm_bs; rw [pg_bd_in (Nat.le_of_lt hji) hec]
    rw [hb]
    rw [sm_f_skip (q := q + 1) (fun j h1 h2 => ?_) i (Nat.le_refl _) (by omega)]
    · show (if (kd q = 4 ∨ kd q = 5) ∧ i < pg_en kd c q then J (sm_f kd c J t i (sm_bs kd nv na np b s q) q) (t (q + 1)) else sm_f kd c J t i (sm_bs kd nv na np b s q) q) = _
      have hq : i < pg_en kd c q := (pg_en_gt C.1 (Nat.le_of_lt hji) (Nat.le_of_lt hi)).mpr hec
      have hcg : sm_f kd c J t i (sm_bs kd nv na np b s q) q = sm_f kd c J t q (sm_bs kd nv na np b s q) q := by
        refine sm_f_cong q (fun j hj' => ?_)
        rw [pg_en_gt C.1 (by omega) (Nat.le_of_lt hi), pg_en_gt C.1 (Nat.le_of_lt hj') (by omega)]
        constructor
        · intro z u u1 u2; exact z u u1 (by omega)
        · intro z u u1 u2
          rcases Nat.lt_or_ge u q with w | w
          · exact z u u1 (by omega)
          · have := hec u w u2
            have := z q (by omega) (Nat.le_refl _)
            omega
      rw [hcg]
      by_cases z : kd q = 4 ∨ kd q = 5
      · rw [if_pos ⟨z, hq⟩, if_pos z]
      · rw [if_neg (fun w => z w.1), if_neg z]
    · rw [pg_en_gt C.1 (by omega) (Nat.le_of_lt hi)]
      intro z
      have := z i (by omega) (Nat.le_refl _)
      have := hc.2.2.2 j (by omega) h2
      omega
end
end
section
/-! closed maps, admissible raises, rounds -/
def sm_c (kd fA fB : Nat → Nat) (nv na np c : Nat) (J : Nat → Nat → Nat) (s t : Nat → Nat) (i : Nat) : Prop :=
  (kd i = 1 → J (J (t (i + 1)) (t i)) (s (fA i)) = s (fA i)) ∧
  (kd i = 2 → J (J (J (t (i + 1)) (t i)) (t (pg_en kd c (i + 1)))) (s (nv + fA i)) = s (nv + fA i)) ∧
  (kd i = 7 → J (J (t (i + 1)) (t i)) (s (nv + na + 3 * pg_bd kd np i + 2)) = s (nv + na + 3 * pg_bd kd np i + 2)) ∧
  (kd i = 6 → J (t i) (s (nv + na + 3 * fA i)) = s (nv + na + 3 * fA i) ∧ J (J (t (i + 1)) (t i)) (s (nv + na + 3 * fA i + 1)) = s (nv + na + 3 * fA i + 1) ∧
    J (J (s (nv + na + 3 * fA i + 2)) (t i)) (s (fB i)) = s (fB i))
/-- s' is within the lattice, above s0 and closed -/
def sm_Ad (kd fA fB : Nat → Nat) (nv na np c N : Nat) (J : Nat → Nat → Nat) (b : Nat) (dl s0 s' : Nat → Nat) : Prop :=
  (∀ k, k < nv + na + 3 * np → s' k < N) ∧ (∀ k, k < nv + na + 3 * np → J (s0 k) (s' k) = s' k) ∧ (∀ t, sm_T kd fA nv na np c J b dl s' t → ∀ i, i < c → sm_c kd fA fB nv na np c J s' t i)
def sm_I (kd fA fB : Nat → Nat) (nv na np c N : Nat) (J : Nat → Nat → Nat) (b : Nat) (dl s0 s : Nat → Nat) : Prop :=
  (∀ k, k < nv + na + 3 * np → s k < N) ∧ (∀ k, k < nv + na + 3 * np → J (s0 k) (s k) = s k) ∧ (∀ s', sm_Ad kd fA fB nv na np c N J b dl s0 s' → ∀ k, k < nv + na + 3 * np → J (s k) (s' k) = s' k)
def sm_A (kd fA fB : Nat → Nat) (nv na np c N : Nat) (J : Nat → Nat → Nat) (b : Nat) (dl s0 : Nat → Nat) (k l : Nat) : Prop := k < nv + na + 3 * np ∧ l < N ∧ ∀ s', sm_Ad kd fA fB nv na np c N J b dl s0 s' → J l (s' k) = s' k
def sm_rs (J : Nat → Nat → Nat) (s : Nat → Nat) (k l : Nat) : Nat → Nat := fun j => if j = k then J (s k) l else s j
def sm_Q (kd fA fB : Nat → Nat) (nv na np c N : Nat) (J : Nat → Nat → Nat) (b : Nat) (dl s0 sr s : Nat → Nat) (x : Int32) (C : Prop) : Prop :=
  sm_I kd fA fB nv na np c N J b dl s0 s ∧ (∀ k, k < nv + na + 3 * np → J (sr k) (s k) = s k) ∧ ((x = 0 ∧ s = sr ∧ C) ∨ (x = 1 ∧ sm_M N J sr (nv + na + 3 * np) < sm_M N J s (nv + na + 3 * np)))
/-- what a fixed point search hands back -/
def sm_W (kd fA fB : Nat → Nat) (nv na np c N : Nat) (J : Nat → Nat → Nat) (b : Nat) (dl s0 s : Nat → Nat) : Prop := sm_I kd fA fB nv na np c N J b dl s0 s ∧ (∀ t, sm_T kd fA nv na np c J b dl s t → ∀ i, i < c → sm_c kd fA fB nv na np c J s t i)
section
variable {kd fA fB : Nat → Nat} {n nv na np c N : Nat} {J : Nat → Nat → Nat} {b : Nat} {dl s0 : Nat → Nat}
theorem sm_W_u (L : sm_L N J b) {s s' : Nat → Nat} (h : sm_W kd fA fB nv na np c N J b dl s0 s) (h' : sm_W kd fA fB nv na np c N J b dl s0 s') : ∀ k, k < nv + na + 3 * np → s k = s' k := by
  intro k hk
  have a : sm_Ad kd fA fB nv na np c N J b dl s0 s := ⟨h.1.1, h.1.2.1, h.2⟩
  have a' : sm_Ad kd fA fB nv na np c N J b dl s0 s' := ⟨h'.1.1, h'.1.2.1, h'.2⟩
  exact sm_an L (h.1.1 k hk) (h'.1.1 k hk) (h.1.2.2 _ a' k hk) (h'.1.2.2 _ a k hk)
theorem sm_I0 (L : sm_L N J b) (h : ∀ k, k < nv + na + 3 * np → s0 k < N) : sm_I kd fA fB nv na np c N J b dl s0 s0 :=
  ⟨h, fun k hk => L.2.2.1 _ (h k hk), fun _ a => a.2.1⟩
theorem sm_rsI (L : sm_L N J b) {s : Nat → Nat} {k l : Nat} (h0 : ∀ k, k < nv + na + 3 * np → s0 k < N) (h : sm_I kd fA fB nv na np c N J b dl s0 s) (a : sm_A kd fA fB nv na np c N J b dl s0 k l) : sm_I kd fA fB nv na np c N J b dl s0 (sm_rs J s k l) := by
  obtain ⟨i1, i2, i3⟩ := h
  obtain ⟨hk, a1, a2⟩ := a
  refine ⟨fun j hj => ?_, fun j hj => ?_, fun s' hs j hj => ?_⟩
  · unfold sm_rs
    split
    · exact L.2.1 _ _ (i1 _ hk) a1
    · exact i1 _ hj
  · unfold sm_rs
    split
    · rename_i e; subst e
      exact sm_tr L (h0 _ hj) (i1 _ hj) (L.2.1 _ _ (i1 _ hj) a1) (i2 _ hj) (sm_l L (i1 _ hj) a1)
    · exact i2 _ hj
  · unfold sm_rs
    split
    · rename_i e; subst e
      exact sm_u L (i1 _ hj) a1 (hs.1 _ hj) (i3 _ hs _ hj) (a2 _ hs)
    · exact i3 _ hs _ hj
theorem sm_rs0 {s : Nat → Nat} {k l : Nat} (h : J (s k) l = s k) : sm_rs J s k l = s := by
  funext j; unfold sm_rs
  split
  · rename_i e; subst e; exact h
  · rfl
theorem sm_Q0 {s : Nat → Nat} (L : sm_L N J b) (h : sm_I kd fA fB nv na np c N J b dl s0 s) : sm_Q kd fA fB nv na np c N J b dl s0 s s 0 True :=
  ⟨h, fun k hk => L.2.2.1 _ (h.1 k hk), Or.inl ⟨rfl, rfl, trivial⟩⟩
/-- one raise: nothing changes, and the flow is satisfied -/
theorem sm_Qn (L : sm_L N J b) {sr s : Nat → Nat} {x : Int32} {C : Prop} {k l : Nat} (h : sm_Q kd fA fB nv na np c N J b dl s0 sr s x C) (a : sm_A kd fA fB nv na np c N J b dl s0 k l) (e : J (s k) l = s k) : sm_Q kd fA fB nv na np c N J b dl s0 sr s x (C ∧ J l (sr k) = sr k) := by
  obtain ⟨q1, q2, q3⟩ := h
  refine ⟨q1, q2, ?_⟩
  rcases q3 with ⟨x0, e1, c1⟩ | z
  · refine Or.inl ⟨x0, e1, c1, ?_⟩
    rw [← e1, L.2.2.2.1 _ _ a.2.1 (q1.1 _ a.1)]; exact e
  · exact Or.inr z
theorem sm_Qy (L : sm_L N J b) {sr s : Nat → Nat} {x : Int32} {C : Prop} (D : Prop) {k l : Nat} (h0 : ∀ k, k < nv + na + 3 * np → s0 k < N) (hr : ∀ k, k < nv + na + 3 * np → sr k < N) (h : sm_Q kd fA fB nv na np c N J b dl s0 sr s x C) (a : sm_A kd fA fB nv na np c N J b dl s0 k l) (e : ¬ J (s k) l = s k) : sm_Q kd fA fB nv na np c N J b dl s0 sr (sm_rs J s k l) 1 D := by
  obtain ⟨q1, q2, q3⟩ := h
  have i' := sm_rsI L h0 q1 a
  have hle : ∀ j, j < nv + na + 3 * np → J (s j) (sm_rs J s k l j) = sm_rs J s k l j := by
    intro j hj
    unfold sm_rs
    split
    · rename_i e; subst e; exact sm_l L (q1.1 _ hj) a.2.1
    · exact L.2.2.1 _ (q1.1 _ hj)
  refine ⟨i', fun j hj => sm_tr L (hr _ hj) (q1.1 _ hj) (i'.1 _ hj) (q2 _ hj) (hle _ hj), Or.inr ⟨rfl, ?_⟩⟩
  have m1 : sm_M N J sr (nv + na + 3 * np) ≤ sm_M N J s (nv + na + 3 * np) := sm_Mm L hr q1.1 q2
  have m2 : sm_M N J s (nv + na + 3 * np) < sm_M N J (sm_rs J s k l) (nv + na + 3 * np) :=
    sm_Ms L (q := k) (fun w => e (by have z : sm_rs J s k l k = J (s k) l := if_pos rfl; rw [← z]; exact w.symm)) a.1 q1.1 i'.1 hle
  omega
theorem sm_Qc {sr s : Nat → Nat} {x : Int32} {C D : Prop} (h : sm_Q kd fA fB nv na np c N J b dl s0 sr s x C) (f : s = sr → C → D) : sm_Q kd fA fB nv na np c N J b dl s0 sr s x D := by
  obtain ⟨q1, q2, q3⟩ := h
  refine ⟨q1, q2, ?_⟩
  rcases q3 with ⟨x0, e1, c1⟩ | z
  · exact Or.inl ⟨x0, e1, f e1 c1⟩
  · exact Or.inr z
/-- rounds one behind another -/
theorem sm_Qq (L : sm_L N J b) {sr s s' : Nat → Nat} {x y : Int32} {C D : Prop} (hr : ∀ k, k < nv + na + 3 * np → sr k < N) (h : sm_Q kd fA fB nv na np c N J b dl s0 sr s x C) (h' : sm_Q kd fA fB nv na np c N J b dl s0 s s' y D) : sm_Q kd fA fB nv na np c N J b dl s0 sr s' (if y = 0 then x else 1) (C ∧ D ∧ s = sr) := by
  obtain ⟨q1, q2, q3⟩ := h
  obtain ⟨p1, p2, p3⟩ := h'
  have m1 : sm_M N J sr (nv + na + 3 * np) ≤ sm_M N J s (nv + na + 3 * np) := sm_Mm L hr q1.1 q2
  have m2 : sm_M N J s (nv + na + 3 * np) ≤ sm_M N J s' (nv + na + 3 * np) := sm_Mm L q1.1 p1.1 p2
  refine ⟨p1, fun j hj => sm_tr L (hr _ hj) (q1.1 _ hj) (p1.1 _ hj) (q2 _ hj) (p2 _ hj), ?_⟩
  rcases p3 with ⟨y0, e1, d1⟩ | ⟨y1, z⟩
  · rw [if_pos y0]
    rcases q3 with ⟨x0, e2, c1⟩ | ⟨x1, z⟩
    · exact Or.inl ⟨x0, by rw [e1, e2], c1, d1, e2⟩
    · exact Or.inr ⟨x1, by omega⟩
  · rw [if_neg (by rw [y1]; decide)]
    exact Or.inr ⟨rfl, by omega⟩
/-- the flows of a token are admissible raises -/
theorem sm_ad (C : pg_C kd np c) (F : sm_F kd fA fB n nv na np c) (L : sm_L N J b) {s t : Nat → Nat} (hd : ∀ i, i < c → kd i = 14 → dl i < N) (h : sm_I kd fA fB nv na np c N J b dl s0 s) (T : sm_T kd fA nv na np c J b dl s t) {i : Nat} (hi : i < c) :
    (kd i = 1 → sm_A kd fA fB nv na np c N J b dl s0 (fA i) (J (t (i + 1)) (t i))) ∧
    (kd i = 2 → sm_A kd fA fB nv na np c N J b dl s0 (nv + fA i) (J (J (t (i + 1)) (t i)) (t (pg_en kd c (i + 1))))) ∧
    (kd i = 7 → sm_A kd fA fB nv na np c N J b dl s0 (nv + na + 3 * pg_bd kd np i + 2) (J (t (i + 1)) (t i))) ∧
    (kd i = 6 → sm_A kd fA fB nv na np c N J b dl s0 (nv + na + 3 * fA i) (t i) ∧ sm_A kd fA fB nv na np c N J b dl s0 (nv + na + 3 * fA i + 1) (J (t (i + 1)) (t i)) ∧
      (∀ s1, sm_I kd fA fB nv na np c N J b dl s0 s1 → sm_A kd fA fB nv na np c N J b dl s0 (fB i) (J (s1 (nv + na + 3 * fA i + 2)) (t i)))) := by
  have tb := sm_tb C F L T h.1 hd
  obtain ⟨f1, f2, f3, f4, f5, f6, f7⟩ := F i hi
  have mono : ∀ s' t', sm_Ad kd fA fB nv na np c N J b dl s0 s' → sm_T kd fA nv na np c J b dl s' t' → ∀ i, i < c → J (t i) (t' i) = t' i := fun s' t' a T' => sm_tm C F L T T' h.1 a.1 hd (h.2.2 _ a)
  refine ⟨fun hk => ?_, fun hk => ?_, fun hk => ?_, fun hk => ?_⟩
  · obtain ⟨a1, a2, a3⟩ := pg_k1 C hi (by omega)
    have q : fA i < nv + na + 3 * np := by have := f2 (Or.inl hk); omega
    refine ⟨q, L.2.1 _ _ (tb _ a1) (tb _ hi), fun s' a => ?_⟩
    obtain ⟨t', T'⟩ := sm_ex (fA := fA) (nv := nv) (na := na) (J := J) (b := b) (dl := dl) C s'
    have tb' := sm_tb C F L T' a.1 hd
    have cl := (a.2.2 t' T' i hi).1 hk
    exact sm_tr L (L.2.1 _ _ (tb _ a1) (tb _ hi)) (L.2.1 _ _ (tb' _ a1) (tb' _ hi)) (a.1 _ q) (sm_m L (tb _ a1) (tb _ hi) (tb' _ a1) (tb' _ hi) (mono _ _ a T' _ a1) (mono _ _ a T' _ hi)) cl
  · obtain ⟨a1, a2, a3, a4, a5, a6⟩ := pg_k2 C hi (by omega)
    have q : nv + fA i < nv + na + 3 * np := by have := f3 (Or.inl hk); omega
    have B1 := L.2.1 _ _ (tb _ a1) (tb _ hi)
    refine ⟨q, L.2.1 _ _ B1 (tb _ a4), fun s' a => ?_⟩
    obtain ⟨t', T'⟩ := sm_ex (fA := fA) (nv := nv) (na := na) (J := J) (b := b) (dl := dl) C s'
    have tb' := sm_tb C F L T' a.1 hd
    have B2 := L.2.1 _ _ (tb' _ a1) (tb' _ hi)
    have cl := (a.2.2 t' T' i hi).2.1 hk
    exact sm_tr L (L.2.1 _ _ B1 (tb _ a4)) (L.2.1 _ _ B2 (tb' _ a4)) (a.1 _ q) (sm_m L B1 (tb _ a4) B2 (tb' _ a4) (sm_m L (tb _ a1) (tb _ hi) (tb' _ a1) (tb' _ hi) (mono _ _ a T' _ a1) (mono _ _ a T' _ hi)) (mono _ _ a T' _ a4)) cl
  · obtain ⟨a1, a2, a3⟩ := pg_k1 C hi (by omega)
    have q : nv + na + 3 * pg_bd kd np i + 2 < nv + na + 3 * np := by have := f7 (Or.inl hk); omega
    refine ⟨q, L.2.1 _ _ (tb _ a1) (tb _ hi), fun s' a => ?_⟩
    obtain ⟨t', T'⟩ := sm_ex (fA := fA) (nv := nv) (na := na) (J := J) (b := b) (dl := dl) C s'
    have tb' := sm_tb C F L T' a.1 hd
    have cl := (a.2.2 t' T' i hi).2.2.1 hk
    exact sm_tr L (L.2.1 _ _ (tb _ a1) (tb _ hi)) (L.2.1 _ _ (tb' _ a1) (tb' _ hi)) (a.1 _ q) (sm_m L (tb _ a1) (tb _ hi) (tb' _ a1) (tb' _ hi) (mono _ _ a T' _ a1) (mono _ _ a T' _ hi)) cl
  · obtain ⟨a1, a2, a3⟩ := pg_k1 C hi (by omega)
    obtain ⟨f41, f42⟩ := f4 hk
    have q0 : nv + na + 3 * fA i < nv + na + 3 * np := by omega
    have q1 : nv + na + 3 * fA i + 1 < nv + na + 3 * np := by omega
    have q2 : nv + na + 3 * fA i + 2 < nv + na + 3 * np := by omega
    have q3 : fB i < nv + na + 3 * np := by omega
    refine ⟨⟨q0, tb _ hi, fun s' a => ?_⟩, ⟨q1, L.2.1 _ _ (tb _ a1) (tb _ hi), fun s' a => ?_⟩, fun s1 h1 => ⟨q3, L.2.1 _ _ (h1.1 _ q2) (tb _ hi), fun s' a => ?_⟩⟩
    · obtain ⟨t', T'⟩ := sm_ex (fA := fA) (nv := nv) (na := na) (J := J) (b := b) (dl := dl) C s'
      have tb' := sm_tb C F L T' a.1 hd
      have cl := ((a.2.2 t' T' i hi).2.2.2 hk).1
      exact sm_tr L (tb _ hi) (tb' _ hi) (a.1 _ q0) (mono _ _ a T' _ hi) cl
    · obtain ⟨t', T'⟩ := sm_ex (fA := fA) (nv := nv) (na := na) (J := J) (b := b) (dl := dl) C s'
      have tb' := sm_tb C F L T' a.1 hd
      have cl := ((a.2.2 t' T' i hi).2.2.2 hk).2.1
      exact sm_tr L (L.2.1 _ _ (tb _ a1) (tb _ hi)) (L.2.1 _ _ (tb' _ a1) (tb' _ hi)) (a.1 _ q1) (sm_m L (tb _ a1) (tb _ hi) (tb' _ a1) (tb' _ hi) (mono _ _ a T' _ a1) (mono _ _ a T' _ hi)) cl
    · obtain ⟨t', T'⟩ := sm_ex (fA := fA) (nv := nv) (na := na) (J := J) (b := b) (dl := dl) C s'
      have tb' := sm_tb C F L T' a.1 hd
      have cl := ((a.2.2 t' T' i hi).2.2.2 hk).2.2
      exact sm_tr L (L.2.1 _ _ (h1.1 _ q2) (tb _ hi)) (L.2.1 _ _ (a.1 _ q2) (tb' _ hi)) (a.1 _ q3) (sm_m L (h1.1 _ q2) (tb _ hi) (a.1 _ q2) (tb' _ hi) (h1.2.2 _ a _ q2) (mono _ _ a T' _ hi)) cl
theorem sm_AJ (L : sm_L N J b) {k x y : Nat} (hx : x < N) (hy : y < N) (a : sm_A kd fA fB nv na np c N J b dl s0 k (J x y)) : sm_A kd fA fB nv na np c N J b dl s0 k x ∧ sm_A kd fA fB nv na np c N J b dl s0 k y :=
  ⟨⟨a.1, hx, fun s' h => sm_tr L hx a.2.1 (h.1 _ a.1) (sm_l L hx hy) (a.2.2 _ h)⟩, ⟨a.1, hy, fun s' h => sm_tr L hy a.2.1 (h.1 _ a.1) (sm_r L hx hy) (a.2.2 _ h)⟩⟩
/-- T depends on s at the slots alone: its values are fixed -/
theorem sm_tu (C : pg_C kd np c) (F : sm_F kd fA fB n nv na np c) (L : sm_L N J b) {s t t' : Nat → Nat} (T : sm_T kd fA nv na np c J b dl s t) (T' : sm_T kd fA nv na np c J b dl s t')
    (hs : ∀ k, k < nv + na + 3 * np → s k < N) (hd : ∀ i, i < c → kd i = 14 → dl i < N) : ∀ i, i < c → t i = t' i := by
  intro i hi
  have hl : ∀ k, k < nv + na + 3 * np → J (s k) (s k) = s k := fun k hk => L.2.2.1 _ (hs k hk)
  exact sm_an L (sm_tb C F L T hs hd i hi) (sm_tb C F L T' hs hd i hi) (sm_tm C F L T T' hs hs hd hl i hi) (sm_tm C F L T' T hs hs hd hl i hi)
end
end
section
/-! values of expressions; the continuation of a statement; the potential -/
def ma_cl (me : Nat → Int32) (base : Nat) (x : Int32) : Int32 := if 0 ≤ x ∧ x < 4 then me (base + x.toNatClampNeg) else 0
def ma_op (o : Nat) (l r : Int32) : Int32 := if o = 0 then l + r else if o = 1 then l - r else if o = 2 then l * r else if o = 3 then (if r = 0 then 0 else l / r)
  else if o = 4 then (if r ≤ l then 0 else 1) else if o = 5 then (if l = r then 1 else 0) else l &&& r
def ma_v (kd fA : Nat → Nat) (fa : Nat → Int32) (nv c : Nat) (me : Nat → Int32) (run d : Nat) (cP v : Nat → Int32) (i : Nat) : Prop :=
  (kd i = 9 → v i = fa i) ∧ (kd i = 10 → v i = me (run * 48 + fA i * 4)) ∧ (kd i = 11 → v i = ma_cl me (run * 48 + (nv + fA i) * 4) (v (i + 1))) ∧
  (kd i = 12 → v i = if d = 0 then 0 else cP (d - 1)) ∧ (kd i = 13 → v i = ma_op (fA i) (v (i + 1)) (v (pg_en kd c (i + 1)))) ∧ (kd i = 14 → v i = v (i + 1))
def ma_V (kd fA : Nat → Nat) (fa : Nat → Int32) (nv c : Nat) (me : Nat → Int32) (run d : Nat) (cP v : Nat → Int32) : Prop := ∀ i, i < c → 9 ≤ kd i → ma_v kd fA fa nv c me run d cP v i
def ma_K (kd : Nat → Nat) (np c : Nat) (K : Nat → List Nat) (P : Nat → Nat) : Prop := ∀ a, a < c → (pg_rt kd np a → K a = [] ∧ P a = 1) ∧ (∀ q m, pg_ch kd np q m a →
  (kd q = 3 → (a = q + 1 → K a = pg_en kd c a :: K q ∧ P a = 3 * (pg_en kd c (pg_en kd c a) - pg_en kd c a) + 2 + P q) ∧ (a ≠ q + 1 → K a = K q ∧ P a = P q + 1)) ∧
  (kd q = 4 → K a = K q ∧ P a = P q + 1) ∧ (kd q = 5 → K a = q :: K q ∧ P a = P q + 1 + 3 * (pg_en kd c q - q)))
def ma_S (K : Nat → List Nat) (ck : Nat → Nat) : Nat → List Int32
  | 0 => []
  | d + 1 => (-1 - nI (ck d)) :: ((K (ck d)).map nI ++ ma_S K ck d)
def ma_U (P : Nat → Nat) (ck : Nat → Nat) : Nat → Nat
  | 0 => 0
  | d + 1 => P (ck d) + ma_U P ck d
def ma_sk (co : Nat → Int32) : List Int32 → Prop
  | [] => True
  | x :: r => co r.length = x ∧ ma_sk co r
theorem ma_sku {co : Nat → Int32} {i : Nat} {x : Int32} : ∀ {l : List Int32}, ma_sk co l → l.length ≤ i → ma_sk (upd co i x) l
  | [], _, _ => trivial
  | y :: r, h, hl => by
    have hl' : r.length + 1 ≤ i := hl
    exact ⟨by rw [pk_un (by omega)]; exact h.1, ma_sku h.2 (by omega)⟩
theorem ma_skp {co : Nat → Int32} {x : Int32} {l : List Int32} (h : ma_sk co l) : ma_sk (upd co l.length x) (x :: l) := ⟨pk_us, ma_sku h (Nat.le_refl _)⟩
theorem ma_S_cong {K : Nat → List Nat} {ck ck' : Nat → Nat} : ∀ d, (∀ j, j < d → ck j = ck' j) → ma_S K ck d = ma_S K ck' d
  | 0, _ => rfl
  | d + 1, h => by
    show (-1 - nI (ck d)) :: ((K (ck d)).map nI ++ ma_S K ck d) = (-1 - nI (ck' d)) :: ((K (ck' d)).map nI ++ ma_S K ck' d)
    rw [ma_S_cong d (fun j hj => h j (by omega)), h d (by omega)]
theorem ma_U_cong {P : Nat → Nat} {ck ck' : Nat → Nat} : ∀ d, (∀ j, j < d → ck j = ck' j) → ma_U P ck d = ma_U P ck' d
  | 0, _ => rfl
  | d + 1, h => by
    show P (ck d) + ma_U P ck d = P (ck' d) + ma_U P ck' d
    rw [ma_U_cong d (fun j hj => h j (by omega)), h d (by omega)]
section
variable {kd fA : Nat → Nat} {fa : Nat → Int32} {nv np c : Nat}
theorem ma_Vex (C : pg_C kd np c) (me : Nat → Int32) (run d : Nat) (cP : Nat → Int32) : ∃ v, ma_V kd fA fa nv c me run d cP v := by
  obtain ⟨f, hf⟩ := fx (α := Nat) (V := Int32) (fun i => c - i) (fun f i => if kd i = 9 then fa i else if kd i = 10 then me (run * 48 + fA i * 4) else if kd i = 11 then ma_cl me (run * 48 + (nv + fA i) * 4) (f (i + 1)) else if kd i = 12 then (if d = 0 then 0 else cP (d - 1)) else if kd i = 13 then ma_op (fA i) (f (i + 1)) (f (pg_en kd c (i + 1))) else f (i + 1))
  refine ⟨f, fun i hi h => ?_⟩
  have e := hf i
  dsimp only at e
  refine ⟨fun hk => ?_, fun hk => ?_, fun hk => ?_, fun hk => ?_, fun hk => ?_, fun hk => ?_⟩
  · rw [e]; simp [hk]
  · rw [e]; simp [hk]
  · have a4 : c - (i + 1) < c - i := by omega
    rw [e]; simp [hk, a4]
  · rw [e]; simp [hk]
  · obtain ⟨a1, a2, a3, a4, a5, a6⟩ := pg_k2 C hi (by omega)
    have a7 : c - (i + 1) < c - i := by omega
    have a8 : c - pg_en kd c (i + 1) < c - i := by omega
    rw [e]; simp [hk, a7, a8]
  · have a4 : c - (i + 1) < c - i := by omega
    rw [e]; simp [hk, a4]
theorem ma_Kex (C : pg_C kd np c) : ∃ K P, ma_K kd np c K P := by
  obtain ⟨f, hf⟩ := fx (α := Nat) (V := List Nat × Nat) (fun a => a) (fun f a => if pg_pa kd c a a = 0 then ([], 1) else if kd (pg_pa kd c a a - 1) = 3 then (if a = pg_pa kd c a a - 1 + 1 then (pg_en kd c a :: (f (pg_pa kd c a a - 1)).1, 3 * (pg_en kd c (pg_en kd c a) - pg_en kd c a) + 2 + (f (pg_pa kd c a a - 1)).2) else ((f (pg_pa kd c a a - 1)).1, (f (pg_pa kd c a a - 1)).2 + 1)) else if kd (pg_pa kd c a a - 1) = 4 then ((f (pg_pa kd c a a - 1)).1, (f (pg_pa kd c a a - 1)).2 + 1) else ((pg_pa kd c a a - 1) :: (f (pg_pa kd c a a - 1)).1, (f (pg_pa kd c a a - 1)).2 + 1 + 3 * (pg_en kd c (pg_pa kd c a a - 1) - (pg_pa kd c a a - 1))))
  refine ⟨fun a => (f a).1, fun a => (f a).2, fun a ha => ⟨fun hr => ?_, fun q m hc => ?_⟩⟩
  · have e := hf a
    dsimp only at e
    rw [pg_par_rt C.1 (Nat.le_of_lt ha) hr, if_pos rfl] at e
    dsimp only
    rw [e]; exact ⟨rfl, rfl⟩
  · have e := hf a
    dsimp only at e
    have hq := hc.1
    rw [pg_par_ch C.1 (Nat.le_of_lt ha) hc, if_neg (by omega), Nat.add_sub_cancel, if_pos hq] at e
    dsimp only
    refine ⟨fun hk => ⟨fun h1 => ?_, fun h1 => ?_⟩, fun hk => ?_, fun hk => ?_⟩
    · rw [if_pos hk, if_pos h1] at e
      rw [e]; exact ⟨rfl, rfl⟩
    · rw [if_pos hk, if_neg h1] at e
      rw [e]; exact ⟨rfl, rfl⟩
    · rw [if_neg (by omega), if_pos hk] at e
      rw [e]; exact ⟨rfl, rfl⟩
    · rw [if_neg (by omega), if_neg (by omega)] at e
      rw [e]; exact ⟨rfl, rfl⟩
theorem ma_Kl (C : pg_C kd np c) {K : Nat → List Nat} {P : Nat → Nat} (hK : ma_K kd np c K P) : ∀ a, a < c → kd a ≤ 8 → (K a).length ≤ a := by
  refine pg_is ?_
  intro a ha h8 ih
  rcases pg_up C ha h8 with hr | ⟨q, m, hc, hq, hq8, hj⟩
  · rw [((hK a ha).1 hr).1]; exact Nat.zero_le _
  · obtain ⟨h3, h4, h5⟩ := (hK a ha).2 q m hc
    have i := ih q hq hq8
    rcases hj with z | ⟨z | z, _⟩
    · by_cases e : a = q + 1
      · rw [((h3 z).1 e).1]; simp only [List.length_cons]; omega
      · rw [((h3 z).2 e).1]; omega
    · rw [(h4 z).1]; omega
    · rw [(h5 z).1]; simp only [List.length_cons]; omega
theorem ma_Sl (C : pg_C kd np c) (hc : c ≤ 64) {K : Nat → List Nat} {P : Nat → Nat} (hK : ma_K kd np c K P) {ck : Nat → Nat} : ∀ d, (∀ j, j < d → ck j < c ∧ kd (ck j) ≤ 8) → (ma_S K ck d).length ≤ 64 * d
  | 0, _ => Nat.le_refl _
  | d + 1, h => by
    have a := ma_Sl C hc hK d (fun j hj => h j (by omega))
    obtain ⟨h1, h2⟩ := h d (by omega)
    have b := ma_Kl C hK (ck d) h1 h2
    show (_ :: ((K (ck d)).map nI ++ ma_S K ck d)).length ≤ _
    simp only [List.length_cons, List.length_append, List.length_map]
    omega
end
end
section
/-! the reference's walks over the token list: arity, end, start, body, parent -/
def zz_k (ki : Nat → Int32) (kd : Nat → Nat) (c : Nat) : Prop := ∀ i, i < c → ki i = nI (kd i) ∧ kd i < 15
theorem bz_need {d a : Nat} (h : 1 ≤ d) : nI d + (nI a - 1) = nI (d + a - 1) := by
  obtain ⟨e, rfl⟩ : ∃ e, d = e + 1 := ⟨d - 1, by omega⟩
  rw [show e + 1 + a - 1 = e + a by omega, ← nI_1, ← nI_add]
  grind
theorem bz_k15 {k : Nat} (h : k < 15) : k = 0 ∨ k = 1 ∨ k = 2 ∨ k = 3 ∨ k = 4 ∨ k = 5 ∨ k = 6 ∨ k = 7 ∨ k = 8 ∨ k = 9 ∨ k = 10 ∨ k = 11 ∨ k = 12 ∨ k = 13 ∨ k = 14 := by omega
section
variable {n nv na np c : Nat} {sl iS rS yC yF bo yD yA yT : Int32} {od yB yL yE ki fa fb yV eS oC dC yK cP cR oL oV dT dK : Nat → Int32}
variable {kd : Nat → Nat}
theorem yw_arity {k : Nat} (hk : k < 15) {post : Int32 → Prop} (h : post (nI (pg_ar k))) : wpY_arity post (nI n, nI nv, nI na, nI np, nI (nv + na), nI (nv + na + 3 * np), sl, iS, rS, yC, yF, bo, nI c, yD, yA, yT, od, yB, yL, yE, ki, fa, fb, yV, eS, oC, dC, yK, cP, cR, oL, oV, dT, dK) (nI k) := by
  rcases bz_k15 hk with rfl | rfl | rfl | rfl | rfl | rfl | rfl | rfl | rfl | rfl | rfl | rfl | rfl | rfl | rfl
  all_goals
    unfold wpY_arity
    dsimp only
    repeat (first | exact br_t (by decide) h | refine br_f (by decide) ?_)
    try exact h
theorem yw_end4 (hk : zz_k ki kd c) (hc : c ≤ 64) {post : Int32 → Prop} : ∀ f d j m, f = c - j → f < m → j ≤ 100 → 1 ≤ d → d + 2 * f ≤ 300 → post (nI (pg_es kd c f d j)) → wY_end_4 post (nI n) (nI nv) (nI na) (nI np) (nI (nv + na)) (nI (nv + na + 3 * np)) sl iS rS yC yF bo (nI c) yD yA yT od yB yL yE ki fa fb yV eS oC dC yK cP cR oL oV dT dK m (nI d) (nI j) := by
  intro f
  induction f with
  | zero =>
    intro d j m hf hm hj hd hb h
    obtain ⟨m, rfl⟩ : ∃ e, m = e + 1 := ⟨m - 1, by omega⟩
    refine br_t (nI_le (by omega) (by omega)) ?_
    rw [nI_1]; exact h
  | succ f ih =>
    intro d j m hf hm hj hd hb h
    obtain ⟨m, rfl⟩ : ∃ e, m = e + 1 := ⟨m - 1, by omega⟩
    obtain ⟨k1, k2⟩ := hk j (by omega)
    have a3 := pg_ar3 (kd j)
    refine br_f (nI_ge (by omega) (by omega)) (And.intro (vp_in_nI (by omega) (by omega)) ?_)
    rw [nI_clamp (by omega), k1]
    refine yw_arity k2 ?_
    intro x ex
    have ex' : x = nI (d + pg_ar (kd j) - 1) := by rw [ex]; exact bz_need hd
    unfold pg_es at h
    refine pk_eq (d + pg_ar (kd j) - 1) 0 (fun e => ?_) (fun e => ?_) ex' rfl (by omega) (by omega)
    · rw [nI_1]; rw [if_pos (by omega)] at h; exact h
    · intro y ey
      rw [ey, nI_1, ex']
      rw [if_neg (by omega)] at h
      exact ih _ _ _ (by omega) (by omega) (by omega) (by omega) (by omega) h
theorem yw_end (hk : zz_k ki kd c) (hc : c ≤ 64) {post : Int32 → Prop} {i : Nat} (hi : i ≤ 100) (h : post (nI (pg_en kd c i))) {x : Int32} (hx : x = nI i) : wpY_end post (nI n, nI nv, nI na, nI np, nI (nv + na), nI (nv + na + 3 * np), sl, iS, rS, yC, yF, bo, nI c, yD, yA, yT, od, yB, yL, yE, ki, fa, fb, yV, eS, oC, dC, yK, cP, cR, oL, oV, dT, dK) x := by
  subst hx
  exact ⟨65, yw_end4 hk hc (c - i) 1 i 65 rfl (by omega) hi (by omega) (by omega) h⟩
theorem yw_start4 (hk : zz_k ki kd c) (hc : c ≤ 64) {b : Nat} (hb : b ≤ 4) {post : Int32 → Prop} (h : post (nI (pg_st kd c b))) : ∀ f k m, k + f = b → f < m → wY_start_4 post (nI b) (nI n) (nI nv) (nI na) (nI np) (nI (nv + na)) (nI (nv + na + 3 * np)) sl iS rS yC yF bo (nI c) yD yA yT od yB yL yE ki fa fb yV eS oC dC yK cP cR oL oV dT dK m (nI (pg_st kd c k)) (nI k) := by
  intro f
  induction f with
  | zero =>
    intro k m hf hm
    obtain ⟨m, rfl⟩ : ∃ e, m = e + 1 := ⟨m - 1, by omega⟩
    have e : k = b := by omega
    subst e
    exact br_t (nI_le (by omega) (by omega)) h
  | succ f ih =>
    intro k m hf hm
    obtain ⟨m, rfl⟩ : ∃ e, m = e + 1 := ⟨m - 1, by omega⟩
    refine br_f (nI_ge (by omega) (by omega)) ?_
    have hs : pg_st kd c k ≤ 100 := by
      cases k with
      | zero => exact Nat.zero_le _
      | succ k => have := pg_en_le (kd := kd) (c := c) (pg_st kd c k); show pg_en kd c (pg_st kd c k) ≤ 100; omega
    refine yw_end hk hc hs ?_ rfl
    intro y ey
    rw [ey, nI_1]
    exact ih (k + 1) m (by omega) (by omega)
theorem yw_start (hk : zz_k ki kd c) (hc : c ≤ 64) {b : Nat} (hb : b ≤ 4) {post : Int32 → Prop} (h : post (nI (pg_st kd c b))) {x : Int32} (hx : x = nI b) : wpY_start post (nI n, nI nv, nI na, nI np, nI (nv + na), nI (nv + na + 3 * np), sl, iS, rS, yC, yF, bo, nI c, yD, yA, yT, od, yB, yL, yE, ki, fa, fb, yV, eS, oC, dC, yK, cP, cR, oL, oV, dT, dK) x := by
  subst hx
  exact ⟨5, yw_start4 hk hc hb h b 0 5 (by omega) (by omega)⟩
theorem yw_body4 (hk : zz_k ki kd c) (hc : c ≤ 64) (hnp : np ≤ 3) (hG : pg_G kd np c) {i : Nat} (hi : i ≤ c) {post : Int32 → Prop} (h : post (nI (pg_bd kd np i))) : ∀ f k m, k + f = np + 1 → f < m → wY_body_4 post (nI i) (nI n) (nI nv) (nI na) (nI np) (nI (nv + na)) (nI (nv + na + 3 * np)) sl iS rS yC yF bo (nI c) yD yA yT od yB yL yE ki fa fb yV eS oC dC yK cP cR oL oV dT dK m (nI (min k (pg_bd kd np i))) (nI (k + 1)) := by
  intro f
  have ht := pg_bd_top (kd := kd) (np := np) i
  induction f with
  | zero =>
    intro k m hf hm
    obtain ⟨m, rfl⟩ : ∃ e, m = e + 1 := ⟨m - 1, by omega⟩
    refine br_t (by rw [nI_1]; exact nI_lt (by omega) (by omega)) ?_
    rw [Nat.min_eq_right (by omega)]; exact h
  | succ f ih =>
    intro k m hf hm
    obtain ⟨m, rfl⟩ : ∃ e, m = e + 1 := ⟨m - 1, by omega⟩
    refine br_f (by rw [nI_1]; exact nI_nlt (by omega) (by omega)) ?_
    refine yw_start hk hc (b := k + 1) (by omega) ?_ rfl
    have hs := pg_st_le hG (k := k + 1) (i := i) (by omega) hi
    have hb : pg_st kd c (k + 1) ≤ c + 1 := pg_en_le _
    refine pk_lt i (pg_st kd c (k + 1)) (fun e => ?_) (fun e => ?_) rfl rfl (by omega) (by omega)
    · intro y ey
      rw [ey, nI_1, show min k (pg_bd kd np i) = min (k + 1) (pg_bd kd np i) by omega]
      exact ih (k + 1) m (by omega) (by omega)
    · intro y ey
      have e2 : min (k + 1) (pg_bd kd np i) = k + 1 := by have := hs.mp e; omega
      have q := ih (k + 1) m (by omega) (by omega)
      rw [e2] at q
      rw [ey, nI_1]
      exact q
theorem yw_body (hk : zz_k ki kd c) (hc : c ≤ 64) (hnp : np ≤ 3) (hG : pg_G kd np c) {i : Nat} (hi : i ≤ c) {post : Int32 → Prop} (h : post (nI (pg_bd kd np i))) {x : Int32} (hx : x = nI i) : wpY_body post (nI n, nI nv, nI na, nI np, nI (nv + na), nI (nv + na + 3 * np), sl, iS, rS, yC, yF, bo, nI c, yD, yA, yT, od, yB, yL, yE, ki, fa, fb, yV, eS, oC, dC, yK, cP, cR, oL, oV, dT, dK) x := by
  subst hx
  refine ⟨6, ?_⟩
  have q := yw_body4 (n := n) (nv := nv) (na := na) (np := np) (c := c) (sl := sl) (iS := iS) (rS := rS) (yC := yC) (yF := yF) (bo := bo) (yD := yD) (yA := yA) (yT := yT) (od := od) (yB := yB) (yL := yL) (yE := yE) (ki := ki) (fa := fa) (fb := fb) (yV := yV) (eS := eS) (oC := oC) (dC := dC) (yK := yK) (cP := cP) (cR := cR) (oL := oL) (oV := oV) (dT := dT) (dK := dK) hk hc hnp hG hi h (np + 1) 0 6 (by omega) (by omega)
  rw [Nat.zero_min] at q
  exact q
theorem yw_par4 (hk : zz_k ki kd c) (hc : c ≤ 64) {i : Nat} (hi : i ≤ c) {post : Int32 → Prop} : ∀ k m, k ≤ i → k < m → post (nI (pg_pa kd c i k) + (-1)) → wY_parent_4 post (nI i) (nI n) (nI nv) (nI na) (nI np) (nI (nv + na)) (nI (nv + na + 3 * np)) sl iS rS yC yF bo (nI c) yD yA yT od yB yL yE ki fa fb yV eS oC dC yK cP cR oL oV dT dK m (nI k + (-1)) := by
  intro k
  induction k with
  | zero =>
    intro m hk' hm h
    obtain ⟨m, rfl⟩ : ∃ e, m = e + 1 := ⟨m - 1, by omega⟩
    rw [show pg_pa kd c i 0 = 0 from rfl, bz_m0] at h
    rw [bz_m0]
    exact br_t (by decide) h
  | succ k ih =>
    intro m hk' hm h
    obtain ⟨m, rfl⟩ : ∃ e, m = e + 1 := ⟨m - 1, by omega⟩
    rw [pk_m1]
    refine br_f (nI_pos (by omega)) ?_
    refine yw_end hk hc (i := k) (by omega) ?_ rfl
    have hb : pg_en kd c k ≤ c + 1 := pg_en_le _
    unfold pg_pa at h
    refine pk_le (pg_en kd c k) i (fun e => ?_) (fun e => ?_) rfl rfl (by omega) (by omega)
    · intro y ey
      rw [ey]
      rw [if_neg (by omega)] at h
      exact ih m (by omega) (by omega) h
    · rw [if_pos e, pk_m1] at h
      exact h
theorem yw_parent (hk : zz_k ki kd c) (hc : c ≤ 64) {i : Nat} (hi : i ≤ c) {post : Int32 → Prop} (h : post (nI (pg_pa kd c i i) + (-1))) {x : Int32} (hx : x = nI i) : wpY_parent post (nI n, nI nv, nI na, nI np, nI (nv + na), nI (nv + na + 3 * np), sl, iS, rS, yC, yF, bo, nI c, yD, yA, yT, od, yB, yL, yE, ki, fa, fb, yV, eS, oC, dC, yK, cP, cR, oL, oV, dT, dK) x := by
  subst hx
  intro y ey
  refine ⟨66, ?_⟩
  rw [show y = nI i + (-1) from by rw [ey]; grind]
  exact yw_par4 hk hc hi i 66 (by omega) (by omega) h
theorem yw_in (x : Int32) {k : Nat} (hk : k < 2 ^ 31) {post : Int32 → Prop} (h1 : ∀ j, j < k → x = nI j → post 1) (h0 : (x < 0 ∨ (¬ x < 0 ∧ nI k ≤ x)) → post 0) {y : Int32} (hy : y = nI k) : wpY_in post (nI n, nI nv, nI na, nI np, nI (nv + na), nI (nv + na + 3 * np), sl, iS, rS, yC, yF, bo, nI c, yD, yA, yT, od, yB, yL, yE, ki, fa, fb, yV, eS, oC, dC, yK, cP, cR, oL, oV, dT, dK) x y := by
  subst hy
  rcases bz_rng x hk with ⟨j, hj, rfl⟩ | z | ⟨z1, z2⟩
  · exact br_f (nI_pos (by omega)) (br_f (nI_ge hj hk) (h1 j hj rfl))
  · exact br_t z (h0 (Or.inl z))
  · exact br_f z1 (br_t z2 (h0 (Or.inr ⟨z1, z2⟩)))
end
end
section
/-! the component's parser: the stack of awaited pieces against the walk -/
def px_e (kd : Nat → Nat) (np c t : Nat) (s b p : Int32) : Prop :=
  ((∀ j, j < c → t + 1 < pg_dp kd np j) ∧ s = 1 ∧ b = nI (np - t) ∧ p = -1) ∨
  (∃ j m, j < c ∧ pg_dp kd np j ≤ t + 1 ∧ (∀ q, j < q → q < c → t + 1 < pg_dp kd np q) ∧ t + 1 + m = pg_dp kd np (j + 1) ∧ m < pg_ar (kd j) ∧ p = nI (3 * j + m) ∧ b = nI (pg_bd kd np j) ∧ ((pg_sc (kd j) m ∧ s = 1) ∨ (¬ pg_sc (kd j) m ∧ s = 0)))
def px_S (kd : Nat → Nat) (np c h : Nat) (ps pb pp : Nat → Int32) : Prop := ∀ t, t < h → px_e kd np c t (ps t) (pb t) (pp t)
def px_H (kd : Nat → Nat) (np c : Nat) (bf ch bs : Nat → Int32) : Prop :=
  (∀ i, i < c → bf i = nI (pg_bd kd np i)) ∧ (∀ j m p, p < c → pg_ch kd np j m p → ch (3 * j + m) = nI p) ∧ (∀ i, i < c → pg_rt kd np i → bs (pg_bd kd np i) = nI i)
theorem px_eS {kd : Nat → Nat} {np c t : Nat} {s b p : Int32} (h : px_e kd np c t s b p) (ht : t + 1 < pg_dp kd np c) : px_e kd np (c + 1) t s b p := by
  rcases h with ⟨h1, h2⟩ | ⟨j, m, h1, h2, h3, h4⟩
  · refine Or.inl ⟨fun j hj => ?_, h2⟩
    by_cases e : j = c
    · subst e; exact ht
    · exact h1 j (by omega)
  · refine Or.inr ⟨j, m, by omega, h2, fun q q1 q2 => ?_, h4⟩
    by_cases e : q = c
    · subst e; exact ht
    · exact h3 q q1 (by omega)
section
variable {n nv na np c : Nat} {sl bo pt iS fc rS cT aC tk : Int32} {od jo loB hiB ki fa fb bf ch bs ps pb pp wS wT sB tL ip me eS oC oL oV dC dT dK co cP cR sE eV : Nat → Int32}
variable {kd : Nat → Nat}
theorem xw_cc {k : Nat} (hk : k < 15) {post : Int32 → Prop} (h : post (nI (pg_ar k))) : wpX_childCount post (nI n, nI nv, nI na, nI np, nI (nv + na), nI (nv + na + 3 * np), sl, bo, nI c, pt, iS, fc, rS, cT, aC, tk, od, jo, loB, hiB, ki, fa, fb, bf, ch, bs, ps, pb, pp, wS, wT, sB, tL, ip, me, eS, oC, oL, oV, dC, dT, dK, co, cP, cR, sE, eV) (nI k) := by
  rcases bz_k15 hk with rfl | rfl | rfl | rfl | rfl | rfl | rfl | rfl | rfl | rfl | rfl | rfl | rfl | rfl | rfl
  all_goals
    unfold wpX_childCount
    dsimp only
    repeat (first | exact br_t (by decide) h | refine br_f (by decide) ?_)
theorem xw_cs {k m : Nat} (hk : k < 15) (hm : m < 3) {post : Int32 → Prop} (h1 : pg_sc k m → post 1) (h0 : ¬ pg_sc k m → post 0) : wpX_childIsStatement post (nI n, nI nv, nI na, nI np, nI (nv + na), nI (nv + na + 3 * np), sl, bo, nI c, pt, iS, fc, rS, cT, aC, tk, od, jo, loB, hiB, ki, fa, fb, bf, ch, bs, ps, pb, pp, wS, wT, sB, tL, ip, me, eS, oC, oL, oV, dC, dT, dK, co, cP, cR, sE, eV) (nI k) (nI m) := by
  unfold pg_sc at h1 h0
  refine pk_eq k 3 (fun e => h1 (Or.inl e)) (fun e => ?_) rfl rfl (by omega) (by omega)
  have J : wX_childIsStatement_17 post (nI m) (nI n) (nI nv) (nI na) (nI np) (nI (nv + na)) (nI (nv + na + 3 * np)) sl bo (nI c) pt iS fc rS cT aC tk od jo loB hiB ki fa fb bf ch bs ps pb pp wS wT sB tL ip me eS oC oL oV dC dT dK co cP cR sE eV → (k = 4 ∨ k = 5) → wX_childIsStatement_17 post (nI m) (nI n) (nI nv) (nI na) (nI np) (nI (nv + na)) (nI (nv + na + 3 * np)) sl bo (nI c) pt iS fc rS cT aC tk od jo loB hiB ki fa fb bf ch bs ps pb pp wS wT sB tL ip me eS oC oL oV dC dT dK co cP cR sE eV := fun h _ => h
  have K : (k = 4 ∨ k = 5) → wX_childIsStatement_17 post (nI m) (nI n) (nI nv) (nI na) (nI np) (nI (nv + na)) (nI (nv + na + 3 * np)) sl bo (nI c) pt iS fc rS cT aC tk od jo loB hiB ki fa fb bf ch bs ps pb pp wS wT sB tL ip me eS oC oL oV dC dT dK co cP cR sE eV := by
    intro z
    refine pk_le m 0 (fun w => h0 (by omega)) (fun w => h1 (Or.inr ⟨z, w⟩)) rfl rfl (by omega) (by omega)
  refine pk_eq k 4 (fun e => K (Or.inl e)) (fun e => ?_) rfl rfl (by omega) (by omega)
  refine pk_eq k 5 (fun e => K (Or.inr e)) (fun e => h0 (by omega)) rfl rfl (by omega) (by omega)
theorem xw_push {h : Nat} (hh : h < 256) {p0 p1 p2 : Int32} {post : SX → Prop} (hp : post (nI n, nI nv, nI na, nI np, nI (nv + na), nI (nv + na + 3 * np), sl, bo, nI c, nI (h + 1), iS, fc, rS, cT, aC, tk, od, jo, loB, hiB, ki, fa, fb, bf, ch, bs, upd ps h (vp_nar .boolean p0), upd pb h p1, upd pp h p2, wS, wT, sB, tL, ip, me, eS, oC, oL, oV, dC, dT, dK, co, cP, cR, sE, eV)) : wpX_pushPending post (nI n, nI nv, nI na, nI np, nI (nv + na), nI (nv + na + 3 * np), sl, bo, nI c, nI h, iS, fc, rS, cT, aC, tk, od, jo, loB, hiB, ki, fa, fb, bf, ch, bs, ps, pb, pp, wS, wT, sB, tL, ip, me, eS, oC, oL, oV, dC, dT, dK, co, cP, cR, sE, eV) p0 p1 p2 := by
  have e : (nI h).toNatClampNeg = h := nI_clamp (by omega)
  have i : vp_in (nI h) 256 := vp_in_nI hh (by decide)
  refine br_f (nI_ge (b := 256) hh (by decide)) (And.intro i ?_)
  rw [e]
  refine nm_e (And.intro i ?_)
  refine nm_e (And.intro i ?_)
  refine nm_e ?_
  refine nm_r (nI_1 h) ?_
  exact hp
theorem px_upd {q h : Nat} {s b p : Int32} (hS : px_S kd np q h ps pb pp) (he : px_e kd np q h s b p) : px_S kd np q (h + 1) (upd ps h s) (upd pb h b) (upd pp h p) := by
  intro t ht
  by_cases e : t = h
  · subst e; rw [pk_us, pk_us, pk_us]; exact he
  · rw [pk_un e, pk_un e, pk_un e]; exact hS t (by omega)
theorem xw_att88 {i : Nat} (hi : i < 64) (hnp : np ≤ 3) (hG : 0 < pg_dp kd np i) (hk : kd i < 15) {post : SX → Prop}
    (hp : ∀ ps pb pp, px_S kd np (i + 1) (pg_dp kd np (i + 1)) ps pb pp → post (nI n, nI nv, nI na, nI np, nI (nv + na), nI (nv + na + 3 * np), sl, bo, nI c, nI (pg_dp kd np (i + 1)), iS, fc, rS, cT, aC, tk, od, jo, loB, hiB, ki, fa, fb, bf, ch, bs, ps, pb, pp, wS, wT, sB, tL, ip, me, eS, oC, oL, oV, dC, dT, dK, co, cP, cR, sE, eV)) :
    ∀ k m ps pb pp, k ≤ pg_ar (kd i) → k < m → px_S kd np (i + 1) (pg_dp kd np i - 1 + pg_ar (kd i) - k) ps pb pp →
      wX_attach_88 post (nI i) (nI (pg_bd kd np i)) (nI (kd i)) m (nI k + (-1)) (nI n) (nI nv) (nI na) (nI np) (nI (nv + na)) (nI (nv + na + 3 * np)) sl bo (nI c) (nI (pg_dp kd np i - 1 + pg_ar (kd i) - k)) iS fc rS cT aC tk od jo loB hiB ki fa fb bf ch bs ps pb pp wS wT sB tL ip me eS oC oL oV dC dT dK co cP cR sE eV := by
  have hds := pg_dps hG
  have hB := pg_dpB (kd := kd) (np := np) i
  have ha := pg_ar3 (kd i)
  intro k
  induction k with
  | zero =>
    intro m ps pb pp hk' hm hS
    obtain ⟨m, rfl⟩ : ∃ e, m = e + 1 := ⟨m - 1, by omega⟩
    have e : pg_dp kd np i - 1 + pg_ar (kd i) - 0 = pg_dp kd np (i + 1) := by omega
    rw [e] at hS ⊢
    rw [bz_m0]
    exact br_t (by decide) (hp ps pb pp hS)
  | succ k ih =>
    intro m ps pb pp hk' hm hS
    obtain ⟨m, rfl⟩ : ∃ e, m = e + 1 := ⟨m - 1, by omega⟩
    rw [pk_m1]
    refine br_f (nI_pos (by omega)) ?_
    have hh : pg_dp kd np i - 1 + pg_ar (kd i) - (k + 1) < 256 := by omega
    have e1 : 3 * nI i + nI k = nI (3 * i + k) := by rw [show (3 : Int32) = nI 3 from rfl, pk_mul, nI_add]
    have e2 : pg_dp kd np i - 1 + pg_ar (kd i) - (k + 1) + 1 = pg_dp kd np i - 1 + pg_ar (kd i) - k := by omega
    have fin : ∀ s : Int32, ((pg_sc (kd i) k ∧ s = 1) ∨ (¬ pg_sc (kd i) k ∧ s = 0)) → px_S kd np (i + 1) (pg_dp kd np i - 1 + pg_ar (kd i) - k) (upd ps (pg_dp kd np i - 1 + pg_ar (kd i) - (k + 1)) s) (upd pb (pg_dp kd np i - 1 + pg_ar (kd i) - (k + 1)) (nI (pg_bd kd np i))) (upd pp (pg_dp kd np i - 1 + pg_ar (kd i) - (k + 1)) (nI (3 * i + k))) := by
      intro s hs
      rw [← e2]
      exact px_upd hS (Or.inr ⟨i, k, by omega, by omega, fun q q1 q2 => by omega, by omega, by omega, rfl, rfl, hs⟩)
    refine xw_cs hk (m := k) (by omega) (fun w => ?_) (fun w => ?_)
    · refine xw_push hh ?_
      intro x ex
      rw [ex, e1, bz_nar1, e2]
      exact ih m _ _ _ (by omega) (by omega) (fin 1 (Or.inl ⟨w, rfl⟩))
    · refine xw_push hh ?_
      intro x ex
      rw [ex, e1, bz_nar0, e2]
      exact ih m _ _ _ (by omega) (by omega) (fin 0 (Or.inr ⟨w, rfl⟩))
theorem xw_att66 {i : Nat} (hi : i < 64) (hnp : np ≤ 3) (hG : 0 < pg_dp kd np i) (hk : kd i < 15) (hki : ki i = nI (kd i)) {post : SX → Prop} (hS : px_S kd np i (pg_dp kd np i) ps pb pp)
    (hp : ∀ ps pb pp, px_S kd np (i + 1) (pg_dp kd np (i + 1)) ps pb pp → post (nI n, nI nv, nI na, nI np, nI (nv + na), nI (nv + na + 3 * np), sl, bo, nI c, nI (pg_dp kd np (i + 1)), iS, fc, rS, cT, aC, tk, od, jo, loB, hiB, ki, fa, fb, bf, ch, bs, ps, pb, pp, wS, wT, sB, tL, ip, me, eS, oC, oL, oV, dC, dT, dK, co, cP, cR, sE, eV)) :
    wX_attach_66 post (nI i) (nI (pg_bd kd np i)) (nI n) (nI nv) (nI na) (nI np) (nI (nv + na)) (nI (nv + na + 3 * np)) sl bo (nI c) (nI (pg_dp kd np i - 1)) iS fc rS cT aC tk od jo loB hiB ki fa fb bf ch bs ps pb pp wS wT sB tL ip me eS oC oL oV dC dT dK co cP cR sE eV := by
  have ha := pg_ar3 (kd i)
  refine And.intro (vp_in_nI hi (by decide)) ?_
  rw [nI_clamp (by omega), hki]
  refine nm_e ?_
  refine xw_cc hk ?_
  intro x ex
  refine ⟨5, ?_⟩
  rw [show x = nI (pg_ar (kd i)) + (-1) from by rw [ex]; grind]
  have q := xw_att88 (n := n) (nv := nv) (na := na) (np := np) (c := c) (sl := sl) (bo := bo) (iS := iS) (fc := fc) (rS := rS) (cT := cT) (aC := aC) (tk := tk) (od := od) (jo := jo) (loB := loB) (hiB := hiB) (ki := ki) (fa := fa) (fb := fb) (bf := bf) (ch := ch) (bs := bs) (wS := wS) (wT := wT) (sB := sB) (tL := tL) (ip := ip) (me := me) (eS := eS) (oC := oC) (oL := oL) (oV := oV) (dC := dC) (dT := dT) (dK := dK) (co := co) (cP := cP) (cR := cR) (sE := sE) (eV := eV) hi hnp hG hk hp (pg_ar (kd i)) 5 ps pb pp (Nat.le_refl _) (by omega) (fun t ht => px_eS (hS t (by omega)) (by omega))
  rw [show pg_dp kd np i - 1 + pg_ar (kd i) - pg_ar (kd i) = pg_dp kd np i - 1 by omega] at q
  exact q
end
end
section
/-! attach, resetPending -/
section
variable {n nv na np c : Nat} {sl bo pt iS fc rS cT aC tk : Int32} {od jo loB hiB ki fa fb bf ch bs ps pb pp wS wT sB tL ip me eS oC oL oV dC dT dK co cP cR sE eV : Nat → Int32}
variable {kd : Nat → Nat}
theorem px_top {ps pb pp : Nat → Int32} {q : Nat} (hG : pg_G kd np (q + 1)) (hS : px_S kd np q (pg_dp kd np q) ps pb pp) :
    (pg_rt kd np q ∧ ps (pg_dp kd np q - 1) = 1 ∧ pb (pg_dp kd np q - 1) = nI (pg_bd kd np q) ∧ pp (pg_dp kd np q - 1) = -1 ∧ pg_bd kd np q ≤ np) ∨
    (∃ j m, pg_ch kd np j m q ∧ j < q ∧ m < 3 ∧ pp (pg_dp kd np q - 1) = nI (3 * j + m) ∧ pb (pg_dp kd np q - 1) = nI (pg_bd kd np q) ∧ ((pg_sc (kd j) m ∧ ps (pg_dp kd np q - 1) = 1) ∨ (¬ pg_sc (kd j) m ∧ ps (pg_dp kd np q - 1) = 0))) := by
  have h0 := hG q (by omega)
  rcases hS (pg_dp kd np q - 1) (by omega) with ⟨h1, h2, h3, h4⟩ | ⟨j, m, h1, h2, h3, h4, h5, h6, h7, h8⟩
  · have hr : pg_rt kd np q := fun j hj => by have := h1 j hj; omega
    obtain ⟨r1, r2, r3⟩ := pg_rt_st hG (Nat.lt_succ_self q) hr
    exact Or.inl ⟨hr, h2, by rw [h3]; exact congrArg nI (by omega), h4, r1⟩
  · have hd := pg_dps (hG j (by omega))
    have hc : pg_ch kd np j m q := ⟨h1, by omega, h5, fun s s1 s2 => by have := h3 s s1 s2; omega⟩
    have hm := pg_ar3 (kd j)
    exact Or.inr ⟨j, m, hc, h1, by omega, h6, by rw [h7, pg_bd_in (Nat.le_of_lt h1) (pg_ch_ec hc)], h8⟩
theorem px_Hr {q : Nat} (hG : pg_G kd np (q + 1)) (hH : px_H kd np q bf ch bs) (hr : pg_rt kd np q) : px_H kd np (q + 1) (upd bf q (nI (pg_bd kd np q))) ch (upd bs (pg_bd kd np q) (nI q)) := by
  obtain ⟨h1, h2, h3⟩ := hH
  refine ⟨fun i hi => ?_, fun j m p hp hc => ?_, fun i hi hri => ?_⟩
  · exact bz_uk (fun e => by rw [e]) (fun e => h1 i (by omega))
  · by_cases e : p = q
    · subst e; exact absurd hr (fun w => pg_ch_rt hc w)
    · exact h2 j m p (by omega) hc
  · refine bz_uk (fun e => ?_) (fun e => ?_)
    · obtain ⟨r1, r2, r3⟩ := pg_rt_st hG (Nat.lt_succ_self q) hr
      obtain ⟨s1, s2, s3⟩ := pg_rt_st hG hi hri
      by_cases z : i = q
      · rw [z]
      · have := hr i (by omega); omega
    · by_cases z : i = q
      · rw [z] at e; exact absurd rfl e
      · exact h3 i (by omega) hri
theorem px_Hc {q j m : Nat} (hH : px_H kd np q bf ch bs) (hc : pg_ch kd np j m q) : px_H kd np (q + 1) (upd bf q (nI (pg_bd kd np q))) (upd ch (3 * j + m) (nI q)) bs := by
  obtain ⟨h1, h2, h3⟩ := hH
  refine ⟨fun i hi => ?_, fun j' m' p hp hc' => ?_, fun i hi hri => ?_⟩
  · exact bz_uk (fun e => by rw [e]) (fun e => h1 i (by omega))
  · by_cases e : p = q
    · subst e
      obtain ⟨e1, e2⟩ := pg_ch_u hc hc'
      subst e1; subst e2
      exact pk_us
    · have b1 := pg_ar3 (kd j)
      have b2 := pg_ar3 (kd j')
      have b3 := hc.2.2.1
      have b4 := hc'.2.2.1
      rw [pk_un]
      · exact h2 j' m' p (by omega) hc'
      · intro z
        have e1 : j' = j := by omega
        have e2 : m' = m := by omega
        subst e1; subst e2
        have := hc.2.2.2 p hc'.1 (by omega)
        have := hc.2.1
        have := hc'.2.1
        omega
  · by_cases z : i = q
    · subst z; exact absurd hri (fun w => pg_ch_rt hc w)
    · exact h3 i (by omega) hri
theorem xw_attach {q : Nat} (hq : q < 64) (hnp : np ≤ 3) (hG : pg_G kd np (q + 1)) (hk : kd q < 15) (hki : ki q = nI (kd q)) (hS : px_S kd np q (pg_dp kd np q) ps pb pp) (hH : px_H kd np q bf ch bs) {post : SX → Prop}
    (hp : ∀ ps pb pp bf ch bs, px_S kd np (q + 1) (pg_dp kd np (q + 1)) ps pb pp → px_H kd np (q + 1) bf ch bs → post (nI n, nI nv, nI na, nI np, nI (nv + na), nI (nv + na + 3 * np), sl, bo, nI c, nI (pg_dp kd np (q + 1)), iS, fc, rS, cT, aC, tk, od, jo, loB, hiB, ki, fa, fb, bf, ch, bs, ps, pb, pp, wS, wT, sB, tL, ip, me, eS, oC, oL, oV, dC, dT, dK, co, cP, cR, sE, eV)) : wpX_attach post (nI n, nI nv, nI na, nI np, nI (nv + na), nI (nv + na + 3 * np), sl, bo, nI c, nI (pg_dp kd np q), iS, fc, rS, cT, aC, tk, od, jo, loB, hiB, ki, fa, fb, bf, ch, bs, ps, pb, pp, wS, wT, sB, tL, ip, me, eS, oC, oL, oV, dC, dT, dK, co, cP, cR, sE, eV) (nI q) := by
  have h0 := hG q (by omega)
  have hB := pg_dpB (kd := kd) (np := np) q
  have i1 : vp_in (nI (pg_dp kd np q - 1)) 256 := vp_in_nI (by omega) (by decide)
  have i2 : vp_in (nI q) 64 := vp_in_nI hq (by decide)
  refine br_f (nI_ne0 h0 (by omega)) ?_
  refine nm_r (bz_s1 h0) (And.intro i1 ?_)
  rw [nI_clamp (n := pg_dp kd np q - 1) (by omega), nI_clamp (n := q) (by omega)]
  rcases px_top hG hS with ⟨hr, t1, t2, t3, t4⟩ | ⟨j, m, hc, hj, hm, t1, t2, t3⟩
  · refine nm_r t2 (And.intro i1 ?_)
    refine nm_r t3 (And.intro i2 ?_)
    refine nm_e ?_
    refine br_t (by decide) (And.intro (vp_in_nI (by omega) (by decide)) ?_)
    rw [nI_clamp (n := pg_bd kd np q) (by omega)]
    refine nm_e ?_
    exact xw_att66 hq hnp h0 hk hki hS (fun ps pb pp hS' => hp ps pb pp _ _ _ hS' (px_Hr hG hH hr))
  · refine nm_r t2 (And.intro i1 ?_)
    refine nm_r t1 (And.intro i2 ?_)
    refine nm_e ?_
    refine br_f (nI_pos (by omega)) (And.intro (vp_in_nI (by omega) (by decide)) ?_)
    rw [nI_clamp (n := 3 * j + m) (by omega)]
    refine nm_e ?_
    exact xw_att66 hq hnp h0 hk hki hS (fun ps pb pp hS' => hp ps pb pp _ _ _ hS' (px_Hc hH hc))
theorem xw_res10 (hnp : np ≤ 3) {post : SX → Prop} (hp : ∀ ps pb pp, px_S kd np 0 (np + 1) ps pb pp → post (nI n, nI nv, nI na, nI np, nI (nv + na), nI (nv + na + 3 * np), sl, bo, nI c, nI (np + 1), iS, fc, rS, cT, aC, tk, od, jo, loB, hiB, ki, fa, fb, bf, ch, bs, ps, pb, pp, wS, wT, sB, tL, ip, me, eS, oC, oL, oV, dC, dT, dK, co, cP, cR, sE, eV)) :
    ∀ r m ps pb pp, r ≤ np + 1 → r < m → px_S kd np 0 (np + 1 - r) ps pb pp → wX_resetPending_10 post m (nI r + (-1)) (nI n) (nI nv) (nI na) (nI np) (nI (nv + na)) (nI (nv + na + 3 * np)) sl bo (nI c) (nI (np + 1 - r)) iS fc rS cT aC tk od jo loB hiB ki fa fb bf ch bs ps pb pp wS wT sB tL ip me eS oC oL oV dC dT dK co cP cR sE eV := by
  intro r
  induction r with
  | zero =>
    intro m ps pb pp h1 h2 hS
    obtain ⟨m, rfl⟩ : ∃ e, m = e + 1 := ⟨m - 1, by omega⟩
    rw [bz_m0]
    exact br_t (by decide) (hp ps pb pp hS)
  | succ r ih =>
    intro m ps pb pp h1 h2 hS
    obtain ⟨m, rfl⟩ : ∃ e, m = e + 1 := ⟨m - 1, by omega⟩
    rw [pk_m1]
    refine br_f (nI_pos (by omega)) ?_
    refine xw_push (by omega) ?_
    intro x ex
    have e2 : np + 1 - (r + 1) + 1 = np + 1 - r := by omega
    have q := ih m _ _ _ (by omega) (by omega) (e2 ▸ px_upd hS (Or.inl ⟨fun j hj => absurd hj (Nat.not_lt_zero _), rfl, rfl, rfl⟩))
    rw [show np - (np + 1 - (r + 1)) = r by omega] at q
    rw [ex, bz_nar1, e2]
    exact q
theorem xw_reset (hnp : np ≤ 3) {post : SX → Prop} (hp : ∀ ps pb pp, px_S kd np 0 (np + 1) ps pb pp → post (nI n, nI nv, nI na, nI np, nI (nv + na), nI (nv + na + 3 * np), sl, bo, nI c, nI (np + 1), iS, fc, rS, cT, aC, tk, od, jo, loB, hiB, ki, fa, fb, bf, ch, bs, ps, pb, pp, wS, wT, sB, tL, ip, me, eS, oC, oL, oV, dC, dT, dK, co, cP, cR, sE, eV)) : wpX_resetPending post (nI n, nI nv, nI na, nI np, nI (nv + na), nI (nv + na + 3 * np), sl, bo, nI c, pt, iS, fc, rS, cT, aC, tk, od, jo, loB, hiB, ki, fa, fb, bf, ch, bs, ps, pb, pp, wS, wT, sB, tL, ip, me, eS, oC, oL, oV, dC, dT, dK, co, cP, cR, sE, eV) := by
  refine ⟨6, ?_⟩
  have q := xw_res10 (n := n) (nv := nv) (na := na) (np := np) (c := c) (sl := sl) (bo := bo) (iS := iS) (fc := fc) (rS := rS) (cT := cT) (aC := aC) (tk := tk) (od := od) (jo := jo) (loB := loB) (hiB := hiB) (ki := ki) (fa := fa) (fb := fb) (bf := bf) (ch := ch) (bs := bs) (wS := wS) (wT := wT) (sB := sB) (tL := tL) (ip := ip) (me := me) (eS := eS) (oC := oC) (oL := oL) (oV := oV) (dC := dC) (dT := dT) (dK := dK) (co := co) (cP := cP) (cR := cR) (sE := sE) (eV := eV) hnp hp (np + 1) 6 ps pb pp (by omega) (by omega) (fun t ht => absurd ht (by omega))
  rw [pk_m1, show np + 1 - (np + 1) = 0 by omega] at q
  exact q
end
end
section
/-! awaits, put and cut on both sides -/
def pg_ws (kd : Nat → Nat) (np c : Nat) : Prop := pg_rt kd np c ∨ ∃ j m, pg_ch kd np j m c ∧ pg_sc (kd j) m
def px_fit (n nv na np k : Nat) (a b : Int32) : Prop := (k = 1 ∨ k = 10 → ∃ j, j < nv ∧ a = nI j) ∧ (k = 2 ∨ k = 11 → ∃ j, j < na ∧ a = nI j) ∧
  (k = 6 → (∃ j, j < np ∧ a = nI j) ∧ (∃ j, j < nv ∧ b = nI j)) ∧ (k = 8 ∨ k = 14 → ∃ j, j < n ∧ a = nI j) ∧ (k = 13 → ∃ j, j < 7 ∧ a = nI j)
def px_ok (kd : Nat → Nat) (n nv na np c k : Nat) (a b : Int32) : Prop := 0 < pg_dp kd np c ∧ c < 64 ∧ k < 15 ∧ (k ≤ 8 ↔ pg_ws kd np c) ∧ (k = 7 ∨ k = 12 → pg_bd kd np c < np) ∧ px_fit n nv na np k a b
def px_fa (k : Nat) (a : Int32) : Int32 := if k = 0 ∨ k = 3 ∨ k = 4 ∨ k = 5 ∨ k = 7 ∨ k = 12 then 0 else a
def px_fb (k : Nat) (b : Int32) : Int32 := if k = 6 then b else 0
theorem bz_nr {a : Int32} {k : Nat} (hk : k < 2 ^ 31) (z : a < 0 ∨ (¬ a < 0 ∧ nI k ≤ a)) : ¬ ∃ j, j < k ∧ a = nI j := by
  rintro ⟨j, hj, rfl⟩
  rcases z with z | ⟨_, z⟩
  · exact nI_pos (by omega) z
  · exact nI_ge hj hk z
theorem px_fv {n nv na np k : Nat} {a b : Int32} (h : k = 1 ∨ k = 10) : px_fit n nv na np k a b ↔ ∃ j, j < nv ∧ a = nI j :=
  ⟨fun z => z.1 h, fun z => ⟨fun _ => z, fun w => by omega, fun w => by omega, fun w => by omega, fun w => by omega⟩⟩
theorem px_fA {n nv na np k : Nat} {a b : Int32} (h : k = 2 ∨ k = 11) : px_fit n nv na np k a b ↔ ∃ j, j < na ∧ a = nI j :=
  ⟨fun z => z.2.1 h, fun z => ⟨fun w => by omega, fun _ => z, fun w => by omega, fun w => by omega, fun w => by omega⟩⟩
theorem px_fc {n nv na np k : Nat} {a b : Int32} (h : k = 6) : px_fit n nv na np k a b ↔ (∃ j, j < np ∧ a = nI j) ∧ (∃ j, j < nv ∧ b = nI j) :=
  ⟨fun z => z.2.2.1 h, fun z => ⟨fun w => by omega, fun w => by omega, fun _ => z, fun w => by omega, fun w => by omega⟩⟩
theorem px_fn {n nv na np k : Nat} {a b : Int32} (h : k = 8 ∨ k = 14) : px_fit n nv na np k a b ↔ ∃ j, j < n ∧ a = nI j :=
  ⟨fun z => z.2.2.2.1 h, fun z => ⟨fun w => by omega, fun w => by omega, fun w => by omega, fun _ => z, fun w => by omega⟩⟩
theorem px_f7 {n nv na np k : Nat} {a b : Int32} (h : k = 13) : px_fit n nv na np k a b ↔ ∃ j, j < 7 ∧ a = nI j :=
  ⟨fun z => z.2.2.2.2 h, fun z => ⟨fun w => by omega, fun w => by omega, fun w => by omega, fun w => by omega, fun _ => z⟩⟩
theorem px_fo {n nv na np k : Nat} {a b : Int32} (h : k = 0 ∨ k = 3 ∨ k = 4 ∨ k = 5 ∨ k = 7 ∨ k = 9 ∨ k = 12) : px_fit n nv na np k a b :=
  ⟨fun w => by omega, fun w => by omega, fun w => by omega, fun w => by omega, fun w => by omega⟩
section
variable {n nv na np c : Nat} {sl bo pt iS fc rS cT aC tk : Int32} {od jo loB hiB ki fa fb bf ch bs ps pb pp wS wT sB tL ip me eS oC oL oV dC dT dK co cP cR sE eV : Nat → Int32}
variable {kd : Nat → Nat}
theorem xw_in (x : Int32) {k : Nat} (hk : k < 2 ^ 31) {post : Int32 → Prop} (h1 : ∀ j, j < k → x = nI j → post 1) (h0 : (x < 0 ∨ (¬ x < 0 ∧ nI k ≤ x)) → post 0) {y : Int32} (hy : y = nI k) : wpX_inRange post (nI n, nI nv, nI na, nI np, nI (nv + na), nI (nv + na + 3 * np), sl, bo, nI c, pt, iS, fc, rS, cT, aC, tk, od, jo, loB, hiB, ki, fa, fb, bf, ch, bs, ps, pb, pp, wS, wT, sB, tL, ip, me, eS, oC, oL, oV, dC, dT, dK, co, cP, cR, sE, eV) x y := by
  subst hy
  rcases bz_rng x hk with ⟨j, hj, rfl⟩ | z | ⟨z1, z2⟩
  · exact br_f (nI_pos (by omega)) (br_f (nI_ge hj hk) (h1 j hj rfl))
  · exact br_t z (h0 (Or.inl z))
  · exact br_f z1 (br_t z2 (h0 (Or.inr ⟨z1, z2⟩)))
theorem xw_inb (x : Int32) {k : Nat} (hk : k < 2 ^ 31) {P : Prop} {post : Int32 → Prop} (hP : P ↔ ∃ j, j < k ∧ x = nI j) (h1 : P → post 1) (h0 : ¬ P → post 0) {y : Int32} (hy : y = nI k) : wpX_inRange (fun r => narrow .boolean (.int r) = .int r ∧ post r) (nI n, nI nv, nI na, nI np, nI (nv + na), nI (nv + na + 3 * np), sl, bo, nI c, pt, iS, fc, rS, cT, aC, tk, od, jo, loB, hiB, ki, fa, fb, bf, ch, bs, ps, pb, pp, wS, wT, sB, tL, ip, me, eS, oC, oL, oV, dC, dT, dK, co, cP, cR, sE, eV) x y :=
  xw_in x hk (fun j hj e => ⟨bz_n1, h1 (hP.mpr ⟨j, hj, e⟩)⟩) (fun z => ⟨bz_n0, h0 (fun w => bz_nr hk z (hP.mp w))⟩) hy
theorem xw_fit (hn : n ≤ 8) (hnv : nv ≤ 8) (hna : na ≤ 4) (hnp : np ≤ 3) {k : Nat} (hk : k < 15) {a b : Int32} {post : Int32 → Prop} (h1 : px_fit n nv na np k a b → post 1) (h0 : ¬ px_fit n nv na np k a b → post 0) : wpX_fieldsFit post (nI n, nI nv, nI na, nI np, nI (nv + na), nI (nv + na + 3 * np), sl, bo, nI c, pt, iS, fc, rS, cT, aC, tk, od, jo, loB, hiB, ki, fa, fb, bf, ch, bs, ps, pb, pp, wS, wT, sB, tL, ip, me, eS, oC, oL, oV, dC, dT, dK, co, cP, cR, sE, eV) (nI k) a b := by
  rcases bz_k15 hk with rfl | rfl | rfl | rfl | rfl | rfl | rfl | rfl | rfl | rfl | rfl | rfl | rfl | rfl | rfl
  all_goals
    unfold wpX_fieldsFit
    dsimp only
    repeat (first | refine br_t (by decide) ?_ | refine br_f (by decide) ?_)
  · exact h1 (px_fo (by omega))
  · exact xw_inb a (by omega) (px_fv (by omega)) h1 h0 rfl
  · exact xw_inb a (by omega) (px_fA (by omega)) h1 h0 rfl
  · exact h1 (px_fo (by omega))
  · exact h1 (px_fo (by omega))
  · exact h1 (px_fo (by omega))
  · refine xw_in a (by omega) (fun j hj e => ?_) (fun z => ?_) rfl
    · refine br_f (by decide) ?_
      refine xw_in b (by omega) (fun i hi e2 => ?_) (fun z => ?_) rfl
      · exact br_f (by decide) (h1 ((px_fc rfl).mpr ⟨⟨j, hj, e⟩, ⟨i, hi, e2⟩⟩))
      · exact br_t rfl (h0 (fun w => bz_nr (by omega) z ((px_fc rfl).mp w).2))
    · exact br_t rfl (h0 (fun w => bz_nr (by omega) z ((px_fc rfl).mp w).1))
  · exact h1 (px_fo (by omega))
  · exact xw_inb a (by omega) (px_fn (by omega)) h1 h0 rfl
  · exact h1 (px_fo (by omega))
  · exact xw_inb a (by omega) (px_fv (by omega)) h1 h0 rfl
  · exact xw_inb a (by omega) (px_fA (by omega)) h1 h0 rfl
  · exact h1 (px_fo (by omega))
  · exact xw_inb a (by omega) (px_f7 (by omega)) h1 h0 rfl
  · exact xw_inb a (by omega) (px_fn (by omega)) h1 h0 rfl
theorem xw_usesA {k : Nat} (hk : k < 15) {post : Int32 → Prop} (h0 : (k = 0 ∨ k = 3 ∨ k = 4 ∨ k = 5 ∨ k = 7 ∨ k = 12) → post 0) (h1 : ¬ (k = 0 ∨ k = 3 ∨ k = 4 ∨ k = 5 ∨ k = 7 ∨ k = 12) → post 1) : wpX_usesA post (nI n, nI nv, nI na, nI np, nI (nv + na), nI (nv + na + 3 * np), sl, bo, nI c, pt, iS, fc, rS, cT, aC, tk, od, jo, loB, hiB, ki, fa, fb, bf, ch, bs, ps, pb, pp, wS, wT, sB, tL, ip, me, eS, oC, oL, oV, dC, dT, dK, co, cP, cR, sE, eV) (nI k) := by
  rcases bz_k15 hk with rfl | rfl | rfl | rfl | rfl | rfl | rfl | rfl | rfl | rfl | rfl | rfl | rfl | rfl | rfl
  all_goals
    unfold wpX_usesA
    dsimp only
    repeat (first | refine br_t (by decide) ?_ | refine br_f (by decide) ?_)
    first | exact h0 (by decide) | exact h1 (by decide)
theorem xw_put172 {q : Nat} (hq : q < 64) (hnp : np ≤ 3) (hG : pg_G kd np (q + 1)) (hk : kd q < 15) (hki : ki q = nI (kd q)) (hS : px_S kd np q (pg_dp kd np q) ps pb pp) (hH : px_H kd np q bf ch bs) {post : Int32 → SX → Prop}
    (hp : ∀ ps pb pp bf ch bs, px_S kd np (q + 1) (pg_dp kd np (q + 1)) ps pb pp → px_H kd np (q + 1) bf ch bs → post (nI q) (nI n, nI nv, nI na, nI np, nI (nv + na), nI (nv + na + 3 * np), sl, bo, nI (q + 1), nI (pg_dp kd np (q + 1)), iS, fc, rS, cT, aC, tk, od, jo, loB, hiB, ki, fa, fb, bf, ch, bs, ps, pb, pp, wS, wT, sB, tL, ip, me, eS, oC, oL, oV, dC, dT, dK, co, cP, cR, sE, eV)) : wX_put_172 post (nI q) (nI n) (nI nv) (nI na) (nI np) (nI (nv + na)) (nI (nv + na + 3 * np)) sl bo (nI q) (nI (pg_dp kd np q)) iS fc rS cT aC tk od jo loB hiB ki fa fb bf ch bs ps pb pp wS wT sB tL ip me eS oC oL oV dC dT dK co cP cR sE eV := by
  refine nm_r (nI_1 q) ?_
  exact xw_attach hq hnp hG hk hki hS hH hp
theorem px_e_congr {kd' : Nat → Nat} {q t : Nat} {s b p : Int32} (e : ∀ i, i < q → kd i = kd' i) (h : px_e kd np q t s b p) : px_e kd' np q t s b p := by
  have d : ∀ i, i ≤ q → pg_dp kd' np i = pg_dp kd np i := fun i hi => (pg_dp_congr i (fun j hj => e j (by omega))).symm
  rcases h with ⟨h1, h2⟩ | ⟨j, m, h1, h2, h3, h4, h5, h6, h7, h8⟩
  · exact Or.inl ⟨fun j hj => by rw [d j (by omega)]; exact h1 j hj, h2⟩
  · refine Or.inr ⟨j, m, h1, by rw [d j (by omega)]; exact h2, fun r r1 r2 => by rw [d r (by omega)]; exact h3 r r1 r2, by rw [d (j + 1) (by omega)]; exact h4, by rw [← e j h1]; exact h5, h6, ?_, by rw [← e j h1]; exact h8⟩
    rw [h7, pg_bd_congr (fun i hi => e i (by omega))]
theorem px_S_congr {kd' : Nat → Nat} {q h : Nat} {ps pb pp : Nat → Int32} (e : ∀ i, i < q → kd i = kd' i) (H : px_S kd np q h ps pb pp) : px_S kd' np q h ps pb pp := fun t ht => px_e_congr e (H t ht)
theorem px_H_congr {kd' : Nat → Nat} {q : Nat} {bf ch bs : Nat → Int32} (e : ∀ i, i < q → kd i = kd' i) (H : px_H kd np q bf ch bs) : px_H kd' np q bf ch bs := by
  obtain ⟨h1, h2, h3⟩ := H
  refine ⟨fun i hi => ?_, fun j m p hp hc => ?_, fun i hi hr => ?_⟩
  · rw [h1 i hi, pg_bd_congr (fun j hj => e j (by omega))]
  · exact h2 j m p hp (pg_ch_congr (fun j hj => (e j (by omega)).symm) hc)
  · rw [← pg_bd_congr (kd := kd) (kd' := kd') (fun j hj => e j (by omega))]
    exact h3 i hi (pg_rt_congr (fun j hj => (e j (by omega)).symm) hr)
theorem pg_G_congr {kd' : Nat → Nat} {q : Nat} (e : ∀ i, i < q → kd i = kd' i) (H : pg_G kd np (q + 1)) : pg_G kd' np (q + 1) := fun i hi => by
  rw [← pg_dp_congr (kd := kd) (kd' := kd') i (fun j hj => e j (by omega))]; exact H i hi
theorem xw_put158 {k : Nat} {b : Int32} (hnp : np ≤ 3) (hc : c < 64) (hk : k < 15) (hkd : kd c = k) (hki : ki c = nI (kd c)) (hG : pg_G kd np (c + 1)) (hS : px_S kd np c (pg_dp kd np c) ps pb pp) (hH : px_H kd np c bf ch bs) {post : Int32 → SX → Prop}
    (hp : ∀ ps pb pp bf ch bs, px_S kd np (c + 1) (pg_dp kd np (c + 1)) ps pb pp → px_H kd np (c + 1) bf ch bs → post (nI c) (nI n, nI nv, nI na, nI np, nI (nv + na), nI (nv + na + 3 * np), sl, bo, nI (c + 1), nI (pg_dp kd np (c + 1)), iS, fc, rS, cT, aC, tk, od, jo, loB, hiB, ki, fa, upd fb c (px_fb k b), bf, ch, bs, ps, pb, pp, wS, wT, sB, tL, ip, me, eS, oC, oL, oV, dC, dT, dK, co, cP, cR, sE, eV)) : wX_put_158 post (nI k) b (nI c) (nI n) (nI nv) (nI na) (nI np) (nI (nv + na)) (nI (nv + na + 3 * np)) sl bo (nI c) (nI (pg_dp kd np c)) iS fc rS cT aC tk od jo loB hiB ki fa (upd fb c 0) bf ch bs ps pb pp wS wT sB tL ip me eS oC oL oV dC dT dK co cP cR sE eV := by
  unfold px_fb at hp
  refine pk_eq k 6 (fun e => ?_) (fun e => ?_) rfl rfl (by omega) (by omega)
  · refine And.intro (vp_in_nI hc (by decide)) ?_
    rw [nI_clamp (by omega)]
    refine nm_e ?_
    rw [bz_uu]
    rw [if_pos e] at hp
    exact xw_put172 hc hnp hG (by omega) hki hS hH hp
  · rw [if_neg e] at hp
    exact xw_put172 hc hnp hG (by omega) hki hS hH hp
theorem xw_put100 {k : Nat} {a b : Int32} {kd' : Nat → Nat} (hn : n ≤ 8) (hnv : nv ≤ 8) (hna : na ≤ 4) (hnp : np ≤ 3) (hc : c < 64) (hk : k < 15) (he : ∀ i, i < c → kd i = kd' i) (hkd : kd' c = k) (hG : pg_G kd np (c + 1)) (hS : px_S kd np c (pg_dp kd np c) ps pb pp) (hH : px_H kd np c bf ch bs) {post : Int32 → SX → Prop}
    (h0 : ¬ px_fit n nv na np k a b → post (-1) (nI n, nI nv, nI na, nI np, nI (nv + na), nI (nv + na + 3 * np), sl, bo, nI c, nI (pg_dp kd np c), iS, fc, rS, cT, aC, tk, od, jo, loB, hiB, ki, fa, fb, bf, ch, bs, ps, pb, pp, wS, wT, sB, tL, ip, me, eS, oC, oL, oV, dC, dT, dK, co, cP, cR, sE, eV))
    (h1 : px_fit n nv na np k a b → ∀ ps pb pp bf ch bs, px_S kd' np (c + 1) (pg_dp kd' np (c + 1)) ps pb pp → px_H kd' np (c + 1) bf ch bs → post (nI c) (nI n, nI nv, nI na, nI np, nI (nv + na), nI (nv + na + 3 * np), sl, bo, nI (c + 1), nI (pg_dp kd' np (c + 1)), iS, fc, rS, cT, aC, tk, od, jo, loB, hiB, upd ki c (nI k), upd fa c (px_fa k a), upd fb c (px_fb k b), bf, ch, bs, ps, pb, pp, wS, wT, sB, tL, ip, me, eS, oC, oL, oV, dC, dT, dK, co, cP, cR, sE, eV)) :
    wX_put_100 post (nI k) a b (nI n) (nI nv) (nI na) (nI np) (nI (nv + na)) (nI (nv + na + 3 * np)) sl bo (nI c) (nI (pg_dp kd np c)) iS fc rS cT aC tk od jo loB hiB ki fa fb bf ch bs ps pb pp wS wT sB tL ip me eS oC oL oV dC dT dK co cP cR sE eV := by
  have i : vp_in (nI c) 64 := vp_in_nI hc (by decide)
  refine xw_fit hn hnv hna hnp hk (fun w => ?_) (fun w => br_t rfl (h0 w))
  refine br_f (by decide) (And.intro i ?_)
  rw [nI_clamp (n := c) (by omega)]
  refine nm_e (And.intro i (nm_e (And.intro i (nm_e ?_))))
  have ed : pg_dp kd np c = pg_dp kd' np c := pg_dp_congr c he
  have hG' := pg_G_congr he hG
  have hS' := px_S_congr he hS
  have hH' := px_H_congr he hH
  rw [ed] at hS' ⊢
  have hki : upd ki c (nI k) c = nI (kd' c) := by rw [pk_us, hkd]
  have fin := h1 w
  refine xw_usesA hk (fun z => br_t rfl ?_) (fun z => br_f (by decide) (And.intro i (nm_e ?_)))
  · unfold px_fa at fin
    rw [if_pos z] at fin
    exact xw_put158 hnp hc hk hkd hki hG' hS' hH' fin
  · unfold px_fa at fin
    rw [if_neg z] at fin
    rw [bz_uu]
    exact xw_put158 hnp hc hk hkd hki hG' hS' hH' fin
def kn (ki : Nat → Int32) (i : Nat) : Nat := (ki i).toNatClampNeg
theorem kn_ne {q i : Nat} {x : Int32} (h : i ≠ q) : kn (upd ki q x) i = kn ki i := by unfold kn; rw [pk_un h]
theorem kn_eq {q k : Nat} (h : k < 2 ^ 31) : kn (upd ki q (nI k)) q = k := by unfold kn; rw [pk_us, nI_clamp h]
theorem xw_put {p0 a b : Int32} (hn : n ≤ 8) (hnv : nv ≤ 8) (hna : na ≤ 4) (hnp : np ≤ 3) (hG : pg_G (kn ki) np c) (hc64 : c ≤ 64) (hS : px_S (kn ki) np c (pg_dp (kn ki) np c) ps pb pp) (hH : px_H (kn ki) np c bf ch bs) {post : Int32 → SX → Prop}
    (h0 : (sl = 0 ∨ ∀ k, p0 = nI k → ¬ px_ok (kn ki) n nv na np c k a b) → post (-1) (nI n, nI nv, nI na, nI np, nI (nv + na), nI (nv + na + 3 * np), sl, bo, nI c, nI (pg_dp (kn ki) np c), iS, fc, rS, cT, aC, tk, od, jo, loB, hiB, ki, fa, fb, bf, ch, bs, ps, pb, pp, wS, wT, sB, tL, ip, me, eS, oC, oL, oV, dC, dT, dK, co, cP, cR, sE, eV))
    (h1 : ∀ k, ¬ sl = 0 → p0 = nI k → px_ok (kn ki) n nv na np c k a b → ∀ ps pb pp bf ch bs, px_S (kn (upd ki c (nI k))) np (c + 1) (pg_dp (kn (upd ki c (nI k))) np (c + 1)) ps pb pp → px_H (kn (upd ki c (nI k))) np (c + 1) bf ch bs → post (nI c) (nI n, nI nv, nI na, nI np, nI (nv + na), nI (nv + na + 3 * np), sl, bo, nI (c + 1), nI (pg_dp (kn (upd ki c (nI k))) np (c + 1)), iS, fc, rS, cT, aC, tk, od, jo, loB, hiB, upd ki c (nI k), upd fa c (px_fa k a), upd fb c (px_fb k b), bf, ch, bs, ps, pb, pp, wS, wT, sB, tL, ip, me, eS, oC, oL, oV, dC, dT, dK, co, cP, cR, sE, eV)) :
    wpX_put post (nI n, nI nv, nI na, nI np, nI (nv + na), nI (nv + na + 3 * np), sl, bo, nI c, nI (pg_dp (kn ki) np c), iS, fc, rS, cT, aC, tk, od, jo, loB, hiB, ki, fa, fb, bf, ch, bs, ps, pb, pp, wS, wT, sB, tL, ip, me, eS, oC, oL, oV, dC, dT, dK, co, cP, cR, sE, eV) p0 a b := by
  have hB := pg_dpB (kd := kn ki) (np := np) c
  by_cases hs : sl = 0
  · exact br_t hs (h0 (Or.inl hs))
  refine br_f hs ?_
  refine pk_eq (pg_dp (kn ki) np c) 0 (fun e => h0 (Or.inr (fun k _ w => by have := w.1; omega))) (fun e => ?_) rfl rfl (by omega) (by omega)
  have hd : 0 < pg_dp (kn ki) np c := by omega
  refine pk_lt c 64 (fun hc => ?_) (fun e => h0 (Or.inr (fun k _ w => by have := w.2.1; omega))) rfl rfl (by omega) (by omega)
  by_cases hp0 : p0 < 0
  · exact br_t hp0 (h0 (Or.inr (fun k ek w => bz_neg hp0 (by have := w.2.2.1; omega) ek)))
  refine br_f hp0 ?_
  obtain ⟨k, hk31, rfl⟩ := nI_of hp0
  have uk : ∀ k', nI k = nI k' → px_ok (kn ki) n nv na np c k' a b → k = k' := fun k' e w => (nI_eq hk31 (by have := w.2.2.1; omega)).mp e
  refine pk_le k 14 (fun hk => ?_) (fun hk => h0 (Or.inr (fun k' ek w => by have := uk k' ek w; have := w.2.2.1; omega))) rfl rfl (by omega) (by omega)
  have hG1 : pg_G (kn ki) np (c + 1) := fun i hi => by
    by_cases e : i = c
    · subst e; exact hd
    · exact hG i (by omega)
  have ht := px_top hG1 hS
  have i1 : vp_in (nI (pg_dp (kn ki) np c) - 1) 256 := by rw [bz_s1 hd]; exact vp_in_nI (by omega) (by decide)
  have e1 : (nI (pg_dp (kn ki) np c) - 1).toNatClampNeg = pg_dp (kn ki) np c - 1 := by rw [bz_s1 hd]; exact nI_clamp (by omega)
  have hbd : pb (pg_dp (kn ki) np c - 1) = nI (pg_bd (kn ki) np c) := by
    rcases ht with ⟨_, _, h, _⟩ | ⟨_, _, _, _, _, _, h, _⟩ <;> exact h
  have hws : (pg_ws (kn ki) np c ∧ ps (pg_dp (kn ki) np c - 1) = 1) ∨ (¬ pg_ws (kn ki) np c ∧ ps (pg_dp (kn ki) np c - 1) = 0) := by
    rcases ht with ⟨hr, h, _⟩ | ⟨j, m, hch, _, _, _, _, h⟩
    · exact Or.inl ⟨Or.inl hr, h⟩
    · rcases h with ⟨z1, z2⟩ | ⟨z1, z2⟩
      · exact Or.inl ⟨Or.inr ⟨j, m, hch, z1⟩, z2⟩
      · refine Or.inr ⟨?_, z2⟩
        rintro (w | ⟨j', m', w1, w2⟩)
        · exact pg_ch_rt hch w
        · obtain ⟨x1, x2⟩ := pg_ch_u hch w1
          subst x1; subst x2; exact z1 w2
  have hbt := pg_bd_le hG1 (Nat.lt_succ_self c)
  -- from the sort of the token on
  have B : (k ≤ 8 ↔ pg_ws (kn ki) np c) → (k = 7 ∨ k = 12 → pg_bd (kn ki) np c < np) → wX_put_100 post (nI k) a b (nI n) (nI nv) (nI na) (nI np) (nI (nv + na)) (nI (nv + na + 3 * np)) sl bo (nI c) (nI (pg_dp (kn ki) np c)) iS fc rS cT aC tk od jo loB hiB ki fa fb bf ch bs ps pb pp wS wT sB tL ip me eS oC oL oV dC dT dK co cP cR sE eV := by
    intro hw hr
    refine xw_put100 (kd := kn ki) (kd' := kn (upd ki c (nI k))) hn hnv hna hnp hc (by omega) (fun i hi => (kn_ne (by omega)).symm) (kn_eq (by omega)) hG1 hS hH (fun w => h0 (Or.inr (fun k' ek w' => ?_))) (fun w => h1 k hs rfl ⟨hd, hc, by omega, hw, hr, w⟩)
    have := uk k' ek w'
    subst this
    exact w w'.2.2.2.2.2
  have C80 : (k ≤ 8 ↔ pg_ws (kn ki) np c) → (k = 7 ∨ k = 12) → wX_put_80 post (nI k) a b (nI n) (nI nv) (nI na) (nI np) (nI (nv + na)) (nI (nv + na + 3 * np)) sl bo (nI c) (nI (pg_dp (kn ki) np c)) iS fc rS cT aC tk od jo loB hiB ki fa fb bf ch bs ps pb pp wS wT sB tL ip me eS oC oL oV dC dT dK co cP cR sE eV := by
    intro hw hr
    refine And.intro i1 ?_
    rw [e1, hbd]
    refine pk_lt (pg_bd (kn ki) np c) np (fun e => B hw (fun _ => e)) (fun e => h0 (Or.inr (fun k' ek w' => ?_))) rfl rfl (by omega) (by omega)
    have := uk k' ek w'
    subst this
    have := w'.2.2.2.2.1 hr
    omega
  have D : ∀ z : Int32, (z = 1 ∧ k ≤ 8) ∨ (z = 0 ∧ ¬ k ≤ 8) → wX_put_48 post (nI k) a b z (nI n) (nI nv) (nI na) (nI np) (nI (nv + na)) (nI (nv + na + 3 * np)) sl bo (nI c) (nI (pg_dp (kn ki) np c)) iS fc rS cT aC tk od jo loB hiB ki fa fb bf ch bs ps pb pp wS wT sB tL ip me eS oC oL oV dC dT dK co cP cR sE eV := by
    intro z hz
    refine And.intro i1 ?_
    rw [e1]
    by_cases hzz : z = ps (pg_dp (kn ki) np c - 1)
    · refine br_t hzz ?_
      have hw : k ≤ 8 ↔ pg_ws (kn ki) np c := by
        rcases hz with ⟨a1, a2⟩ | ⟨a1, a2⟩ <;> rcases hws with ⟨b1, b2⟩ | ⟨b1, b2⟩
        · exact ⟨fun _ => b1, fun _ => a2⟩
        · rw [a1, b2] at hzz; exact absurd hzz (by decide)
        · rw [a1, b2] at hzz; exact absurd hzz (by decide)
        · exact ⟨fun w => absurd w a2, fun w => absurd w b1⟩
      refine pk_eq k 7 (fun e => C80 hw (Or.inl e)) (fun e7 => ?_) rfl rfl (by omega) (by omega)
      refine pk_eq k 12 (fun e => C80 hw (Or.inr e)) (fun e12 => B hw (fun w => by omega)) rfl rfl (by omega) (by omega)
    · refine br_f hzz (h0 (Or.inr (fun k' ek w' => ?_)))
      have := uk k' ek w'
      subst this
      have hw := w'.2.2.2.1
      rcases hz with ⟨a1, a2⟩ | ⟨a1, a2⟩ <;> rcases hws with ⟨b1, b2⟩ | ⟨b1, b2⟩
      · exact hzz (by rw [a1, b2])
      · exact b1 (hw.mp a2)
      · exact a2 (hw.mpr b1)
      · exact hzz (by rw [a1, b2])
  refine pk_lt 8 k (fun e => D 0 (Or.inr ⟨rfl, by omega⟩)) (fun e => D 1 (Or.inl ⟨rfl, e⟩)) rfl rfl (by omega) (by omega)
end
end
section
/-! awaits and put of the reference -/
def px_lim (n nv na np k : Nat) : Int32 := if k = 1 ∨ k = 10 then nI nv else if k = 2 ∨ k = 11 then nI na else if k = 8 ∨ k = 14 then nI n else if k = 6 then nI np else if k = 13 then 7 else -1
section
variable {n nv na np c : Nat} {sl iS rS yC yF bo yD yA yT : Int32} {od yB yL yE ki fa fb yV eS oC dC yK cP cR oL oV dT dK : Nat → Int32}
variable {kd : Nat → Nat}
theorem yw_lim {k : Nat} (hk : k < 15) {post : Int32 → Prop} (h : post (px_lim n nv na np k)) : wpY_limit post (nI n, nI nv, nI na, nI np, nI (nv + na), nI (nv + na + 3 * np), sl, iS, rS, yC, yF, bo, nI c, yD, yA, yT, od, yB, yL, yE, ki, fa, fb, yV, eS, oC, dC, yK, cP, cR, oL, oV, dT, dK) (nI k) := by
  rcases bz_k15 hk with rfl | rfl | rfl | rfl | rfl | rfl | rfl | rfl | rfl | rfl | rfl | rfl | rfl | rfl | rfl
  all_goals
    unfold wpY_limit
    dsimp only
    repeat (first | exact br_t (by decide) h | refine br_f (by decide) ?_)
    try exact h
theorem yw_limA {x : Int32} {post : Int32 → Prop} (h : ∀ r, post r) : wpY_limit post (nI n, nI nv, nI na, nI np, nI (nv + na), nI (nv + na + 3 * np), sl, iS, rS, yC, yF, bo, nI c, yD, yA, yT, od, yB, yL, yE, ki, fa, fb, yV, eS, oC, dC, yK, cP, cR, oL, oV, dT, dK) x := by
  unfold wpY_limit
  dsimp only
  repeat (first | exact h _ | refine br_c (fun _ => h _) (fun _ => ?_))
theorem yw_awaits (hk : zz_k ki kd c) (hc : c ≤ 64) (hnp : np ≤ 3) (hG : pg_G kd np c) {post : Int32 → Prop} (h0 : sl = 0 → post (-1)) (hz : ¬ sl = 0 → pg_dp kd np c = 0 → post 0)
    (h1 : ¬ sl = 0 → 0 < pg_dp kd np c → pg_ws kd np c → post (nI (2 * pg_bd kd np c + 1))) (h2 : ¬ sl = 0 → 0 < pg_dp kd np c → ¬ pg_ws kd np c → post (nI (2 * pg_bd kd np c + 2))) : wpY_awaits post (nI n, nI nv, nI na, nI np, nI (nv + na), nI (nv + na + 3 * np), sl, iS, rS, yC, yF, bo, nI c, yD, yA, yT, od, yB, yL, yE, ki, fa, fb, yV, eS, oC, dC, yK, cP, cR, oL, oV, dT, dK) := by
  have hbc := pg_bd_c hG
  have hbt := pg_bd_top (kd := kd) (np := np) c
  refine yw_body hk hc hnp hG (Nat.le_refl c) ?_ rfl
  refine yw_parent hk hc (Nat.le_refl c) ?_ rfl
  by_cases hs : sl = 0
  · exact br_t hs (br_t hs (h0 hs))
  refine br_f hs ?_
  refine pk_le (pg_bd kd np c) np (fun e => ?_) (fun e => br_f hs (hz hs (hbc.mp (by omega)))) rfl rfl (by omega) (by omega)
  have hd : 0 < pg_dp kd np c := by
    have : ¬ pg_dp kd np c = 0 := fun w => by have := hbc.mpr w; omega
    omega
  have S1 : pg_ws kd np c → wY_awaits_94 post (nI (pg_bd kd np c)) (nI n) (nI nv) (nI na) (nI np) (nI (nv + na)) (nI (nv + na + 3 * np)) sl iS rS yC yF bo (nI c) yD yA yT od yB yL yE ki fa fb yV eS oC dC yK cP cR oL oV dT dK := by
    intro w
    refine br_t rfl ?_
    rw [show (2 : Int32) = nI 2 from rfl, pk_mul, nI_1]
    exact h1 hs hd w
  have S2 : ¬ pg_ws kd np c → wY_awaits_90 post (nI (pg_bd kd np c)) (nI n) (nI nv) (nI na) (nI np) (nI (nv + na)) (nI (nv + na + 3 * np)) sl iS rS yC yF bo (nI c) yD yA yT od yB yL yE ki fa fb yV eS oC dC yK cP cR oL oV dT dK := by
    intro w
    refine br_f (by decide) ?_
    rw [show (2 : Int32) = nI 2 from rfl, pk_mul, nI_add]
    exact h2 hs hd w
  rcases pg_par hG (Nat.le_refl c) with ⟨z, hr⟩ | ⟨j, m, z, hch⟩
  · rw [z, bz_m0]
    exact br_t (by decide) (S1 (Or.inl hr))
  · rw [z, pk_m1]
    have hj := hch.1
    have i : vp_in (nI j) 64 := vp_in_nI (by omega) (by decide)
    obtain ⟨k1, k2⟩ := hk j (by omega)
    have hws : pg_ws kd np c ↔ pg_sc (kd j) m := by
      constructor
      · rintro (w | ⟨j', m', w1, w2⟩)
        · exact absurd w (fun w => pg_ch_rt hch w)
        · obtain ⟨x1, x2⟩ := pg_ch_u hch w1
          subst x1; subst x2; exact w2
      · exact fun w => Or.inr ⟨j, m, hch, w⟩
    unfold pg_sc at hws
    have hm0 : j + 1 = c ↔ m = 0 := by
      have hds := pg_dps (hG j hj)
      have h2 := hch.2.1
      constructor
      · intro w; rw [w] at hds; omega
      · intro w
        rcases Nat.lt_or_ge (j + 1) c with q | q
        · have := hch.2.2.2 (j + 1) (by omega) q; omega
        · omega
    refine br_f (nI_pos (by omega)) (And.intro i ?_)
    rw [nI_clamp (by omega), k1, nI_1]
    refine pk_eq (kd j) 3 (fun e3 => S1 (hws.mpr (Or.inl e3))) (fun e3 => ?_) rfl rfl (by omega) (by omega)
    refine pk_eq (j + 1) c (fun ec => S2 (fun w => by have := hws.mp w; omega)) (fun ec => And.intro i ?_) rfl rfl (by omega) (by omega)
    refine pk_eq (kd j) 4 (fun e4 => S1 (hws.mpr (Or.inr ⟨Or.inl e4, by omega⟩))) (fun e4 => And.intro i ?_) rfl rfl (by omega) (by omega)
    refine pk_eq (kd j) 5 (fun e5 => S1 (hws.mpr (Or.inr ⟨Or.inr e5, by omega⟩))) (fun e5 => S2 (fun w => by have := hws.mp w; omega)) rfl rfl (by omega) (by omega)
theorem yw_put159 {k : Nat} {b z : Int32} (hc : c < 64) (hk : k < 15) {post : Int32 → SY → Prop} (h1 : post (nI c) (nI n, nI nv, nI na, nI np, nI (nv + na), nI (nv + na + 3 * np), sl, iS, rS, yC, yF, bo, nI (c + 1), yD, yA, yT, od, yB, yL, yE, ki, upd fa c z, upd fb c (px_fb k b), yV, eS, oC, dC, yK, cP, cR, oL, oV, dT, dK)) : wY_put_159 post (nI k) b z (nI c) (nI n) (nI nv) (nI na) (nI np) (nI (nv + na)) (nI (nv + na + 3 * np)) sl iS rS yC yF bo (nI c) yD yA yT od yB yL yE ki fa fb yV eS oC dC yK cP cR oL oV dT dK := by
  have i : vp_in (nI c) 64 := vp_in_nI hc (by decide)
  unfold px_fb at h1
  refine And.intro i ?_
  rw [nI_clamp (n := c) (by omega)]
  refine nm_e ?_
  refine pk_eq k 6 (fun e => ?_) (fun e => ?_) rfl rfl (by omega) (by omega)
  · refine And.intro i ?_
    rw [nI_clamp (n := c) (by omega)]
    refine nm_e (nm_r (nI_1 c) ?_)
    rw [if_pos e] at h1
    rw [nI_pred]; exact h1
  · refine And.intro i ?_
    rw [nI_clamp (n := c) (by omega)]
    refine nm_e (nm_r (nI_1 c) ?_)
    rw [if_neg e] at h1
    rw [nI_pred]; exact h1
theorem yw_put125 {k : Nat} {a b : Int32} (hn : n ≤ 8) (hnv : nv ≤ 8) (hna : na ≤ 4) (hnp : np ≤ 3) (hc : c < 64) (hk : k < 15) {post : Int32 → SY → Prop} (h1 : post (nI c) (nI n, nI nv, nI na, nI np, nI (nv + na), nI (nv + na + 3 * np), sl, iS, rS, yC, yF, bo, nI (c + 1), yD, yA, yT, od, yB, yL, yE, upd ki c (nI k), upd fa c (px_fa k a), upd fb c (px_fb k b), yV, eS, oC, dC, yK, cP, cR, oL, oV, dT, dK)) :
    wY_put_125 post (nI k) a b (px_lim n nv na np k) (nI n) (nI nv) (nI na) (nI np) (nI (nv + na)) (nI (nv + na + 3 * np)) sl iS rS yC yF bo (nI c) yD yA yT od yB yL yE ki fa fb yV eS oC dC yK cP cR oL oV dT dK := by
  have i : vp_in (nI c) 64 := vp_in_nI hc (by decide)
  unfold px_fa at h1
  refine And.intro i ?_
  rw [nI_clamp (n := c) (by omega)]
  refine nm_e ?_
  by_cases q : k = 0 ∨ k = 3 ∨ k = 4 ∨ k = 5 ∨ k = 7 ∨ k = 12
  · rw [if_pos q] at h1
    have el : px_lim n nv na np k = -1 := by unfold px_lim; rw [if_neg (by omega), if_neg (by omega), if_neg (by omega), if_neg (by omega), if_neg (by omega)]
    refine br_f (by rw [el]; decide) ?_
    refine pk_eq k 9 (fun e => by omega) (fun e => yw_put159 hc hk h1) rfl rfl (by omega) (by omega)
  · rw [if_neg q] at h1
    by_cases q9 : k = 9
    · have el : px_lim n nv na np k = -1 := by unfold px_lim; rw [if_neg (by omega), if_neg (by omega), if_neg (by omega), if_neg (by omega), if_neg (by omega)]
      refine br_f (by rw [el]; decide) ?_
      exact br_t (by rw [q9]; rfl) (yw_put159 hc hk h1)
    · have el : ∃ M, M ≤ 8 ∧ px_lim n nv na np k = nI M := by
        unfold px_lim
        split
        · exact ⟨nv, hnv, rfl⟩
        split
        · exact ⟨na, by omega, rfl⟩
        split
        · exact ⟨n, hn, rfl⟩
        split
        · exact ⟨np, by omega, rfl⟩
        split
        · exact ⟨7, by omega, rfl⟩
        · omega
      obtain ⟨M, hM, el⟩ := el
      exact br_t (by rw [el]; exact nI_pos' (by omega)) (yw_put159 hc hk h1)
theorem yw_put {p0 a b : Int32} (hn : n ≤ 8) (hnv : nv ≤ 8) (hna : na ≤ 4) (hnp : np ≤ 3) (hk : zz_k ki kd c) (hc64 : c ≤ 64) (hG : pg_G kd np c) {post : Int32 → SY → Prop}
    (h0 : (sl = 0 ∨ ∀ k, p0 = nI k → ¬ px_ok kd n nv na np c k a b) → post (-1) (nI n, nI nv, nI na, nI np, nI (nv + na), nI (nv + na + 3 * np), sl, iS, rS, yC, yF, bo, nI c, yD, yA, yT, od, yB, yL, yE, ki, fa, fb, yV, eS, oC, dC, yK, cP, cR, oL, oV, dT, dK))
    (h1 : ∀ k, ¬ sl = 0 → p0 = nI k → px_ok kd n nv na np c k a b → post (nI c) (nI n, nI nv, nI na, nI np, nI (nv + na), nI (nv + na + 3 * np), sl, iS, rS, yC, yF, bo, nI (c + 1), yD, yA, yT, od, yB, yL, yE, upd ki c (nI k), upd fa c (px_fa k a), upd fb c (px_fb k b), yV, eS, oC, dC, yK, cP, cR, oL, oV, dT, dK)) :
    wpY_put post (nI n, nI nv, nI na, nI np, nI (nv + na), nI (nv + na + 3 * np), sl, iS, rS, yC, yF, bo, nI c, yD, yA, yT, od, yB, yL, yE, ki, fa, fb, yV, eS, oC, dC, yK, cP, cR, oL, oV, dT, dK) p0 a b := by
  have hbt := pg_bd_top (kd := kd) (np := np) c
  have rest : ∀ R, ¬ sl = 0 → 0 < pg_dp kd np c → 0 < R → R ≤ 10 → (R % 2 = 1 ↔ pg_ws kd np c) → (R ≤ 2 * np ↔ pg_bd kd np c < np) →
      wpY_limit (fun r_36 => ((nI R ≤ 0 → post (-1) (nI n, nI nv, nI na, nI np, nI (nv + na), nI (nv + na + 3 * np), sl, iS, rS, yC, yF, bo, nI c, yD, yA, yT, od, yB, yL, yE, ki, fa, fb, yV, eS, oC, dC, yK, cP, cR, oL, oV, dT, dK)) ∧ (¬ nI R ≤ 0 → ((64 ≤ nI c → post (-1) (nI n, nI nv, nI na, nI np, nI (nv + na), nI (nv + na + 3 * np), sl, iS, rS, yC, yF, bo, nI c, yD, yA, yT, od, yB, yL, yE, ki, fa, fb, yV, eS, oC, dC, yK, cP, cR, oL, oV, dT, dK)) ∧ (¬ 64 ≤ nI c → (wpY_in (fun r_73 => ((r_73 = 0 → post (-1) (nI n, nI nv, nI na, nI np, nI (nv + na), nI (nv + na + 3 * np), sl, iS, rS, yC, yF, bo, nI c, yD, yA, yT, od, yB, yL, yE, ki, fa, fb, yV, eS, oC, dC, yK, cP, cR, oL, oV, dT, dK)) ∧ (¬ r_73 = 0 → ((p0 < 9 → wY_put_48 post p0 a b (nI R) r_36 0 (nI n) (nI nv) (nI na) (nI np) (nI (nv + na)) (nI (nv + na + 3 * np)) sl iS rS yC yF bo (nI c) yD yA yT od yB yL yE ki fa fb yV eS oC dC yK cP cR oL oV dT dK) ∧ (¬ p0 < 9 → wY_put_48 post p0 a b (nI R) r_36 1 (nI n) (nI nv) (nI na) (nI np) (nI (nv + na)) (nI (nv + na + 3 * np)) sl iS rS yC yF bo (nI c) yD yA yT od yB yL yE ki fa fb yV eS oC dC yK cP cR oL oV dT dK))))) (nI n, nI nv, nI na, nI np, nI (nv + na), nI (nv + na + 3 * np), sl, iS, rS, yC, yF, bo, nI c, yD, yA, yT, od, yB, yL, yE, ki, fa, fb, yV, eS, oC, dC, yK, cP, cR, oL, oV, dT, dK) p0 15)))))) (nI n, nI nv, nI na, nI np, nI (nv + na), nI (nv + na + 3 * np), sl, iS, rS, yC, yF, bo, nI c, yD, yA, yT, od, yB, yL, yE, ki, fa, fb, yV, eS, oC, dC, yK, cP, cR, oL, oV, dT, dK) p0 := by
    intro R hs hd hR0 hR hw hr
    rcases bz_rng p0 (n := 15) (by decide) with ⟨k, hk15, rfl⟩ | z
    · refine yw_lim hk15 ?_
      refine br_f (nI_nle hR0 (by omega)) ?_
      refine pk_le 64 c (fun e => h0 (Or.inr (fun k _ w => by have := w.2.1; omega))) (fun hc => ?_) rfl rfl (by omega) (by omega)
      have uk : ∀ k', nI k = nI k' → px_ok kd n nv na np c k' a b → k = k' := fun k' e w => (nI_eq (by omega) (by have := w.2.2.1; omega)).mp e
      have no : ¬ px_ok kd n nv na np c k a b → post (-1) (nI n, nI nv, nI na, nI np, nI (nv + na), nI (nv + na + 3 * np), sl, iS, rS, yC, yF, bo, nI c, yD, yA, yT, od, yB, yL, yE, ki, fa, fb, yV, eS, oC, dC, yK, cP, cR, oL, oV, dT, dK) := fun w => h0 (Or.inr (fun k' ek w' => by have := uk k' ek w'; subst this; exact w w'))
      refine yw_in (nI k) (k := 15) (by decide) (fun j hj ej => br_f (by decide) ?_) (fun z => absurd ⟨k, hk15, rfl⟩ (bz_nr (by decide) z)) rfl
      have P125 : (k ≤ 8 ↔ pg_ws kd np c) → (k = 7 ∨ k = 12 → pg_bd kd np c < np) → px_fit n nv na np k a b → wY_put_125 post (nI k) a b (px_lim n nv na np k) (nI n) (nI nv) (nI na) (nI np) (nI (nv + na)) (nI (nv + na + 3 * np)) sl iS rS yC yF bo (nI c) yD yA yT od yB yL yE ki fa fb yV eS oC dC yK cP cR oL oV dT dK :=
        fun x1 x2 x3 => yw_put125 hn hnv hna hnp hc hk15 (h1 k hs rfl ⟨hd, hc, hk15, x1, x2, x3⟩)
      have P112 : (k ≤ 8 ↔ pg_ws kd np c) → (k = 7 ∨ k = 12) → px_fit n nv na np k a b → wY_put_112 post (nI k) a b (nI R) (px_lim n nv na np k) (nI n) (nI nv) (nI na) (nI np) (nI (nv + na)) (nI (nv + na + 3 * np)) sl iS rS yC yF bo (nI c) yD yA yT od yB yL yE ki fa fb yV eS oC dC yK cP cR oL oV dT dK := by
        intro x1 x2 x3
        refine pk_le R (2 * np) (fun e => P125 x1 (fun _ => hr.mp e) x3) (fun e => no (fun w => by have := hr.mpr (w.2.2.2.2.1 x2); omega)) rfl (by rw [show (2 : Int32) = nI 2 from rfl, pk_mul]) (by omega) (by omega)
      have P100 : (k ≤ 8 ↔ pg_ws kd np c) → px_fit n nv na np k a b → wY_put_100 post (nI k) a b (nI R) (px_lim n nv na np k) (nI n) (nI nv) (nI na) (nI np) (nI (nv + na)) (nI (nv + na + 3 * np)) sl iS rS yC yF bo (nI c) yD yA yT od yB yL yE ki fa fb yV eS oC dC yK cP cR oL oV dT dK := by
        intro x1 x3
        refine pk_eq k 7 (fun e => P112 x1 (Or.inl e) x3) (fun e7 => ?_) rfl rfl (by omega) (by omega)
        refine pk_eq k 12 (fun e => P112 x1 (Or.inr e) x3) (fun e12 => P125 x1 (fun w => by omega) x3) rfl rfl (by omega) (by omega)
      have P80 : (k ≤ 8 ↔ pg_ws kd np c) → (k ≠ 6 → px_fit n nv na np k a b) → (k = 6 → ∃ j, j < np ∧ a = nI j) → wY_put_80 post (nI k) a b (nI R) (px_lim n nv na np k) (nI n) (nI nv) (nI na) (nI np) (nI (nv + na)) (nI (nv + na + 3 * np)) sl iS rS yC yF bo (nI c) yD yA yT od yB yL yE ki fa fb yV eS oC dC yK cP cR oL oV dT dK := by
        intro x1 x2 x3
        refine pk_eq k 6 (fun e => ?_) (fun e => P100 x1 (x2 e)) rfl rfl (by omega) (by omega)
        refine yw_in b (k := nv) (by omega) (fun j hj ej => br_f (by decide) (P100 x1 ((px_fc e).mpr ⟨x3 e, j, hj, ej⟩))) (fun z => br_t rfl (no (fun w => bz_nr (by omega) z ((px_fc e).mp w.2.2.2.2.2).2))) rfl
      have lim : ∀ M, M ≤ 8 → px_lim n nv na np k = nI M → (px_fit n nv na np k a b → ∃ j, j < M ∧ a = nI j) → (k ≠ 6 → (∃ j, j < M ∧ a = nI j) → px_fit n nv na np k a b) → (k = 6 → M = np) → (k ≤ 8 ↔ pg_ws kd np c) →
          ((px_lim n nv na np k < 0 → wY_put_80 post (nI k) a b (nI R) (px_lim n nv na np k) (nI n) (nI nv) (nI na) (nI np) (nI (nv + na)) (nI (nv + na + 3 * np)) sl iS rS yC yF bo (nI c) yD yA yT od yB yL yE ki fa fb yV eS oC dC yK cP cR oL oV dT dK) ∧ (¬ px_lim n nv na np k < 0 → wpY_in (fun r_164 => ((r_164 = 0 → post (-1) (nI n, nI nv, nI na, nI np, nI (nv + na), nI (nv + na + 3 * np), sl, iS, rS, yC, yF, bo, nI c, yD, yA, yT, od, yB, yL, yE, ki, fa, fb, yV, eS, oC, dC, yK, cP, cR, oL, oV, dT, dK)) ∧ (¬ r_164 = 0 → wY_put_80 post (nI k) a b (nI R) (px_lim n nv na np k) (nI n) (nI nv) (nI na) (nI np) (nI (nv + na)) (nI (nv + na + 3 * np)) sl iS rS yC yF bo (nI c) yD yA yT od yB yL yE ki fa fb yV eS oC dC yK cP cR oL oV dT dK))) (nI n, nI nv, nI na, nI np, nI (nv + na), nI (nv + na + 3 * np), sl, iS, rS, yC, yF, bo, nI c, yD, yA, yT, od, yB, yL, yE, ki, fa, fb, yV, eS, oC, dC, yK, cP, cR, oL, oV, dT, dK) a (px_lim n nv na np k))) := by
        intro M hM eM f1 f2 f3 x1
        refine br_f (by rw [eM]; exact nI_pos (by omega)) ?_
        refine yw_in a (k := M) (by omega) (fun j hj ej => br_f (by decide) (P80 x1 (fun w => f2 w ⟨j, hj, ej⟩) (fun w => ⟨j, by rw [← f3 w]; exact hj, ej⟩))) (fun z => br_t rfl (no (fun w => bz_nr (by omega) z (f1 w.2.2.2.2.2)))) eM
      have P60 : ∀ z0 z1 : Int32, ((z1 = z0) ↔ (k ≤ 8 ↔ pg_ws kd np c)) → wY_put_60 post (nI k) a b (nI R) (px_lim n nv na np k) z0 z1 (nI n) (nI nv) (nI na) (nI np) (nI (nv + na)) (nI (nv + na + 3 * np)) sl iS rS yC yF bo (nI c) yD yA yT od yB yL yE ki fa fb yV eS oC dC yK cP cR oL oV dT dK := by
        intro z0 z1 hz
        by_cases e : z1 = z0
        · refine br_t e ?_
          have x1 := hz.mp e
          by_cases q1 : k = 1 ∨ k = 10
          · exact lim nv hnv (by unfold px_lim; rw [if_pos q1]) (px_fv q1).mp (fun _ => (px_fv q1).mpr) (fun w => by omega) x1
          by_cases q2 : k = 2 ∨ k = 11
          · exact lim na (by omega) (by unfold px_lim; rw [if_neg q1, if_pos q2]) (px_fA q2).mp (fun _ => (px_fA q2).mpr) (fun w => by omega) x1
          by_cases q3 : k = 8 ∨ k = 14
          · exact lim n hn (by unfold px_lim; rw [if_neg q1, if_neg q2, if_pos q3]) (px_fn q3).mp (fun _ => (px_fn q3).mpr) (fun w => by omega) x1
          by_cases q4 : k = 6
          · exact lim np (by omega) (by unfold px_lim; rw [if_neg q1, if_neg q2, if_neg q3, if_pos q4]) (fun w => ((px_fc q4).mp w).1) (fun w => absurd q4 w) (fun w => rfl) x1
          by_cases q5 : k = 13
          · exact lim 7 (by omega) (by unfold px_lim; rw [if_neg q1, if_neg q2, if_neg q3, if_neg q4, if_pos q5]; rfl) (px_f7 q5).mp (fun _ => (px_f7 q5).mpr) (fun w => by omega) x1
          have el : px_lim n nv na np k = -1 := by unfold px_lim; rw [if_neg q1, if_neg q2, if_neg q3, if_neg q4, if_neg q5]
          refine br_t (by rw [el]; decide) ?_
          exact P80 x1 (fun _ => px_fo (by omega)) (fun w => absurd w q4)
        · exact br_f e (no (fun w => e (hz.mpr w.2.2.2.1)))
      have P48 : ∀ z1 : Int32, ((z1 = 0 ∧ k ≤ 8) ∨ (z1 = 1 ∧ ¬ k ≤ 8)) → wY_put_48 post (nI k) a b (nI R) (px_lim n nv na np k) z1 (nI n) (nI nv) (nI na) (nI np) (nI (nv + na)) (nI (nv + na + 3 * np)) sl iS rS yC yF bo (nI c) yD yA yT od yB yL yE ki fa fb yV eS oC dC yK cP cR oL oV dT dK := by
        intro z1 hz
        refine And.intro (by decide) ?_
        have er : nI R - nI R / 2 * 2 = nI (R % 2) := pk_rem (d := 2) (by omega) (by omega) (by omega)
        refine pk_eq (R % 2) 0 (fun e => P60 1 z1 ?_) (fun e => P60 0 z1 ?_) er rfl (by omega) (by omega)
        · rcases hz with ⟨y1, y2⟩ | ⟨y1, y2⟩
          · rw [y1]; exact ⟨fun w => absurd w (by decide), fun w => by have := hw.mpr (w.mp y2); omega⟩
          · rw [y1]; exact ⟨fun _ => ⟨fun w => absurd w y2, fun w => by have := hw.mpr w; omega⟩, fun _ => rfl⟩
        · rcases hz with ⟨y1, y2⟩ | ⟨y1, y2⟩
          · rw [y1]; exact ⟨fun _ => ⟨fun w => hw.mp (by omega), fun w => y2⟩, fun _ => rfl⟩
          · rw [y1]; exact ⟨fun w => absurd w (by decide), fun w => absurd (w.mpr (hw.mp (by omega))) y2⟩
      refine pk_lt k 9 (fun e => P48 0 (Or.inl ⟨rfl, by omega⟩)) (fun e => P48 1 (Or.inr ⟨rfl, by omega⟩)) rfl rfl (by omega) (by omega)
    · have no : post (-1) (nI n, nI nv, nI na, nI np, nI (nv + na), nI (nv + na + 3 * np), sl, iS, rS, yC, yF, bo, nI c, yD, yA, yT, od, yB, yL, yE, ki, fa, fb, yV, eS, oC, dC, yK, cP, cR, oL, oV, dT, dK) := h0 (Or.inr (fun k ek w => bz_nr (k := 15) (by decide) z ⟨k, w.2.2.1, ek⟩))
      refine yw_limA (fun r => ?_)
      refine br_c (fun _ => no) (fun _ => br_c (fun _ => no) (fun _ => ?_))
      exact yw_in p0 (k := 15) (by decide) (fun j hj ej => absurd ⟨j, hj, ej⟩ (bz_nr (by decide) z)) (fun _ => br_t rfl no) rfl
  refine yw_awaits hk hc64 hnp hG (fun hs => ?_) (fun hs hd => ?_) (fun hs hd hw => ?_) (fun hs hd hw => ?_)
  · refine yw_limA (fun r => br_t (by decide) (h0 (Or.inl hs)))
  · refine yw_limA (fun r => br_t (by decide) (h0 (Or.inr (fun k _ w => by have := w.1; omega))))
  · exact rest _ hs hd (by omega) (by omega) ⟨fun _ => hw, fun _ => by omega⟩ (by omega)
  · exact rest _ hs hd (by omega) (by omega) ⟨fun z => by omega, fun w => absurd w hw⟩ (by omega)
end
end
section
/-! cut -/
section
variable {n nv na np c : Nat} {sl bo pt iS fc rS cT aC tk : Int32} {od jo loB hiB ki fa fb bf ch bs ps pb pp wS wT sB tL ip me eS oC oL oV dC dT dK co cP cR sE eV : Nat → Int32}
variable {kd : Nat → Nat}
theorem xw_cut37 {q : Nat} (hq : q ≤ 64) (hnp : np ≤ 3) (hG : pg_G kd np q) (hk : zz_k ki kd q) {post : Int32 → SX → Prop}
    (hp : ∀ ps pb pp bf ch bs, px_S kd np q (pg_dp kd np q) ps pb pp → px_H kd np q bf ch bs → post (nI q) (nI n, nI nv, nI na, nI np, nI (nv + na), nI (nv + na + 3 * np), sl, bo, nI q, nI (pg_dp kd np q), 0, fc, 0, cT, aC, tk, od, jo, loB, hiB, ki, fa, fb, bf, ch, bs, ps, pb, pp, wS, wT, sB, tL, ip, me, eS, oC, oL, oV, dC, dT, dK, co, cP, cR, sE, eV)) :
    ∀ f i m ps pb pp bf ch bs, i + f = q → f < m → px_S kd np i (pg_dp kd np i) ps pb pp → px_H kd np i bf ch bs → wX_cut_37 post (nI q) m (nI i) (nI n) (nI nv) (nI na) (nI np) (nI (nv + na)) (nI (nv + na + 3 * np)) sl bo (nI q) (nI (pg_dp kd np i)) iS fc rS cT aC tk od jo loB hiB ki fa fb bf ch bs ps pb pp wS wT sB tL ip me eS oC oL oV dC dT dK co cP cR sE eV := by
  intro f
  induction f with
  | zero =>
    intro i m ps pb pp bf ch bs hf hm hS hH
    obtain ⟨m, rfl⟩ : ∃ e, m = e + 1 := ⟨m - 1, by omega⟩
    have e : i = q := by omega
    subst e
    exact br_t (nI_le (by omega) (by omega)) (hp _ _ _ _ _ _ hS hH)
  | succ f ih =>
    intro i m ps pb pp bf ch bs hf hm hS hH
    obtain ⟨m, rfl⟩ : ∃ e, m = e + 1 := ⟨m - 1, by omega⟩
    refine br_f (nI_ge (by omega) (by omega)) ?_
    refine xw_attach (by omega) hnp (fun j hj => hG j (by omega)) (hk i (by omega)).2 (hk i (by omega)).1 hS hH ?_
    intro ps pb pp bf ch bs hS' hH'
    intro x ex
    rw [ex, nI_1]
    exact ih (i + 1) m ps pb pp bf ch bs (by omega) (by omega) hS' hH'
theorem xw_cut {q : Nat} (hq : q < c) (hc : c ≤ 64) (hnp : np ≤ 3) (hG : pg_G kd np q) (hk : zz_k ki kd q) (hs : ¬ sl = 0) {post : Int32 → SX → Prop}
    (hp : ∀ ps pb pp bf ch bs, px_S kd np q (pg_dp kd np q) ps pb pp → px_H kd np q bf ch bs → post (nI q) (nI n, nI nv, nI na, nI np, nI (nv + na), nI (nv + na + 3 * np), sl, bo, nI q, nI (pg_dp kd np q), 0, fc, 0, cT, aC, tk, od, jo, loB, hiB, ki, fa, fb, bf, ch, bs, ps, pb, pp, wS, wT, sB, tL, ip, me, eS, oC, oL, oV, dC, dT, dK, co, cP, cR, sE, eV)) :
    wpX_cut post (nI n, nI nv, nI na, nI np, nI (nv + na), nI (nv + na + 3 * np), sl, bo, nI c, pt, iS, fc, rS, cT, aC, tk, od, jo, loB, hiB, ki, fa, fb, bf, ch, bs, ps, pb, pp, wS, wT, sB, tL, ip, me, eS, oC, oL, oV, dC, dT, dK, co, cP, cR, sE, eV) (nI q) := by
  refine br_f hs (br_t (nI_pos' (by omega)) (br_t (nI_lt hq (by omega)) ?_))
  refine xw_reset (kd := kd) hnp ?_
  intro ps pb pp hS
  refine ⟨65, ?_⟩
  exact xw_cut37 (by omega) hnp hG hk hp q 0 65 ps pb pp bf ch bs (by omega) (by omega) hS ⟨fun i hi => absurd hi (Nat.not_lt_zero _), fun j m p hp' => absurd hp' (Nat.not_lt_zero _), fun i hi => absurd hi (Nat.not_lt_zero _)⟩
end
end
section
/-! the order: joins searched on both sides -/
def od_le (od : Nat → Int32) (a b : Nat) : Prop := ¬ od (a * 8 + b) = 0
def od_J (od : Nat → Int32) (n a b q : Nat) : Prop := od_le od a q ∧ od_le od b q ∧ ∀ d, d < n → od_le od a d → od_le od b d → od_le od q d
section
variable {n nv na np c : Nat} {sl bo pt iS fc rS cT aC tk : Int32} {od jo loB hiB ki fa fb bf ch bs ps pb pp wS wT sB tL ip me eS oC oL oV dC dT dK co cP cR sE eV : Nat → Int32}
theorem xw_isJ33 (hn : n ≤ 8) {a b q : Nat} (ha : a < 8) (hb : b < 8) (hq : q < 8) {post : Int32 → Prop} (h1 : (∀ d, d < n → od_le od a d → od_le od b d → od_le od q d) → post 1) (h0 : ¬ (∀ d, d < n → od_le od a d → od_le od b d → od_le od q d) → post 0) :
    ∀ f i m, i + f = n → f < m → (∀ d, d < i → od_le od a d → od_le od b d → od_le od q d) → wX_isJoin_33 post (nI a) (nI b) (nI q) (nI n) (nI nv) (nI na) (nI np) (nI (nv + na)) (nI (nv + na + 3 * np)) sl bo (nI c) pt iS fc rS cT aC tk od jo loB hiB ki fa fb bf ch bs ps pb pp wS wT sB tL ip me eS oC oL oV dC dT dK co cP cR sE eV m (nI i) := by
  intro f
  induction f with
  | zero =>
    intro i m hf hm hd
    obtain ⟨m, rfl⟩ : ∃ e, m = e + 1 := ⟨m - 1, by omega⟩
    have e : i = n := by omega
    subst e
    exact br_t (nI_le (by omega) (by omega)) (h1 hd)
  | succ f ih =>
    intro i m hf hm hd
    obtain ⟨m, rfl⟩ : ∃ e, m = e + 1 := ⟨m - 1, by omega⟩
    refine br_f (nI_ge (by omega) (by omega)) ?_
    rw [bz_i8, bz_i8, bz_i8, nI_clamp (n := a * 8 + i) (by omega), nI_clamp (n := b * 8 + i) (by omega), nI_clamp (n := q * 8 + i) (by omega), nI_1]
    have go : (od_le od a i → od_le od b i → od_le od q i) → wX_isJoin_33 post (nI a) (nI b) (nI q) (nI n) (nI nv) (nI na) (nI np) (nI (nv + na)) (nI (nv + na + 3 * np)) sl bo (nI c) pt iS fc rS cT aC tk od jo loB hiB ki fa fb bf ch bs ps pb pp wS wT sB tL ip me eS oC oL oV dC dT dK co cP cR sE eV m (nI (i + 1)) := fun w => ih (i + 1) m (by omega) (by omega) (lt_s hd w)
    refine And.intro (vp_in_nI (by omega) (by decide)) ?_
    refine br_c (fun e => nm_e (go (fun w => absurd e w))) (fun e1 => And.intro (vp_in_nI (by omega) (by decide)) ?_)
    refine br_c (fun e => nm_e (go (fun _ w => absurd e w))) (fun e2 => And.intro (vp_in_nI (by omega) (by decide)) ?_)
    refine br_c (fun e => h0 (fun w => w i (by omega) e1 e2 e)) (fun e3 => nm_e (go (fun _ _ => e3)))
theorem xw_isJ (hn : n ≤ 8) {a b q : Nat} (ha : a < 8) (hb : b < 8) (hq : q < 8) {post : Int32 → Prop} (h1 : od_J od n a b q → post 1) (h0 : ¬ od_J od n a b q → post 0) : wpX_isJoin post (nI n, nI nv, nI na, nI np, nI (nv + na), nI (nv + na + 3 * np), sl, bo, nI c, pt, iS, fc, rS, cT, aC, tk, od, jo, loB, hiB, ki, fa, fb, bf, ch, bs, ps, pb, pp, wS, wT, sB, tL, ip, me, eS, oC, oL, oV, dC, dT, dK, co, cP, cR, sE, eV) (nI a) (nI b) (nI q) := by
  show vp_in (nI a * 8 + nI q) 64 ∧ _
  rw [bz_i8, bz_i8, nI_clamp (n := a * 8 + q) (by omega), nI_clamp (n := b * 8 + q) (by omega)]
  refine And.intro (vp_in_nI (by omega) (by decide)) ?_
  refine br_c (fun e => h0 (fun w => w.1 e)) (fun e1 => And.intro (vp_in_nI (by omega) (by decide)) ?_)
  refine br_c (fun e => h0 (fun w => w.2.1 e)) (fun e2 => ⟨9, ?_⟩)
  exact xw_isJ33 hn ha hb hq (fun w => h1 ⟨e1, e2, w⟩) (fun w => h0 (fun z => w z.2.2)) n 0 9 (by omega) (by omega) lt_0
theorem xw_fJ2 (hn : n ≤ 8) {a b : Nat} (ha : a < 8) (hb : b < 8) {post : Int32 → Prop} (h1 : ∀ q, q < n → od_J od n a b q → (∀ p, p < q → ¬ od_J od n a b p) → post (nI q)) (h0 : (∀ q, q < n → ¬ od_J od n a b q) → post (-2)) :
    ∀ f i m, i + f = n → f < m → (∀ q, q < i → ¬ od_J od n a b q) → wX_findJoin_2 post (nI a) (nI b) (nI n) (nI nv) (nI na) (nI np) (nI (nv + na)) (nI (nv + na + 3 * np)) sl bo (nI c) pt iS fc rS cT aC tk od jo loB hiB ki fa fb bf ch bs ps pb pp wS wT sB tL ip me eS oC oL oV dC dT dK co cP cR sE eV m (nI i) := by
  intro f
  induction f with
  | zero =>
    intro i m hf hm hd
    obtain ⟨m, rfl⟩ : ∃ e, m = e + 1 := ⟨m - 1, by omega⟩
    have e : i = n := by omega
    subst e
    exact br_t (nI_le (by omega) (by omega)) (h0 hd)
  | succ f ih =>
    intro i m hf hm hd
    obtain ⟨m, rfl⟩ : ∃ e, m = e + 1 := ⟨m - 1, by omega⟩
    refine br_f (nI_ge (by omega) (by omega)) ?_
    refine xw_isJ hn ha hb (by omega) (fun w => br_f (by decide) (h1 i (by omega) w hd)) (fun w => br_t rfl ?_)
    intro x ex
    rw [ex, nI_1]
    exact ih (i + 1) m (by omega) (by omega) (lt_s hd w)
theorem xw_fJ (hn : n ≤ 8) {a b : Nat} (ha : a < 8) (hb : b < 8) {post : Int32 → Prop} (h1 : ∀ q, q < n → od_J od n a b q → (∀ p, p < q → ¬ od_J od n a b p) → post (nI q)) (h0 : (∀ q, q < n → ¬ od_J od n a b q) → post (-2)) : wpX_findJoin post (nI n, nI nv, nI na, nI np, nI (nv + na), nI (nv + na + 3 * np), sl, bo, nI c, pt, iS, fc, rS, cT, aC, tk, od, jo, loB, hiB, ki, fa, fb, bf, ch, bs, ps, pb, pp, wS, wT, sB, tL, ip, me, eS, oC, oL, oV, dC, dT, dK, co, cP, cR, sE, eV) (nI a) (nI b) :=
  ⟨9, xw_fJ2 hn ha hb h1 h0 n 0 9 (by omega) (by omega) lt_0⟩
end
section
variable {n nv na np c : Nat} {sl iS rS yC yF bo yD yA yT : Int32} {od yB yL yE ki fa fb yV eS oC dC yK cP cR oL oV dT dK : Nat → Int32}
theorem yw_j74 (hn : n ≤ 8) {a b q : Nat} (ha : a < 8) (hb : b < 8) (hq : q < 8) {post : Int32 → Prop} {J28 : Int32 → Prop} (h1 : od_J od n a b q → post (nI q)) (h0 : ¬ od_J od n a b q → J28 (nI (q + 1))) :
    ∀ f i m z, i + f = n → f < m → ((z = 1 ∧ od_le od a q ∧ od_le od b q ∧ ∀ d, d < i → od_le od a d → od_le od b d → od_le od q d) ∨ (z = 0 ∧ ¬ od_J od n a b q)) → wY_join_74 post J28 (nI a) (nI b) (nI q) (nI n) (nI nv) (nI na) (nI np) (nI (nv + na)) (nI (nv + na + 3 * np)) sl iS rS yC yF bo (nI c) yD yA yT od yB yL yE ki fa fb yV eS oC dC yK cP cR oL oV dT dK m z (nI i) := by
  intro f
  induction f with
  | zero =>
    intro i m z hf hm hz
    obtain ⟨m, rfl⟩ : ∃ e, m = e + 1 := ⟨m - 1, by omega⟩
    have e : i = n := by omega
    subst e
    refine br_t (nI_le (by omega) (by omega)) ?_
    rcases hz with ⟨rfl, z1⟩ | ⟨rfl, z2⟩
    · exact br_f (by decide) (h1 z1)
    · exact br_t rfl (nm_r (nI_1 q) (h0 z2))
  | succ f ih =>
    intro i m z hf hm hz
    obtain ⟨m, rfl⟩ : ∃ e, m = e + 1 := ⟨m - 1, by omega⟩
    refine br_f (nI_ge (by omega) (by omega)) ?_
    rw [bz_i8, bz_i8, bz_i8, nI_clamp (n := a * 8 + i) (by omega), nI_clamp (n := b * 8 + i) (by omega), nI_clamp (n := q * 8 + i) (by omega), nI_1]
    have go : (od_le od a i → od_le od b i → od_le od q i) → wY_join_74 post J28 (nI a) (nI b) (nI q) (nI n) (nI nv) (nI na) (nI np) (nI (nv + na)) (nI (nv + na + 3 * np)) sl iS rS yC yF bo (nI c) yD yA yT od yB yL yE ki fa fb yV eS oC dC yK cP cR oL oV dT dK m z (nI (i + 1)) := by
      intro w
      refine ih (i + 1) m z (by omega) (by omega) ?_
      rcases hz with ⟨z0, z1, z2, z3⟩ | z
      · exact Or.inl ⟨z0, z1, z2, lt_s z3 w⟩
      · exact Or.inr z
    refine And.intro (vp_in_nI (by omega) (by decide)) ?_
    refine br_c (fun e => nm_e (go (fun w => absurd e w))) (fun e1 => And.intro (vp_in_nI (by omega) (by decide)) ?_)
    refine br_c (fun e => nm_e (go (fun _ w => absurd e w))) (fun e2 => And.intro (vp_in_nI (by omega) (by decide)) ?_)
    refine br_c (fun e => nm_e (ih (i + 1) m 0 (by omega) (by omega) (Or.inr ⟨rfl, fun w => w.2.2 i (by omega) e1 e2 e⟩))) (fun e3 => nm_e (go (fun _ _ => e3)))
theorem yw_j28 (hn : n ≤ 8) {a b : Nat} (ha : a < 8) (hb : b < 8) {post : Int32 → Prop} (h1 : ∀ q, q < n → od_J od n a b q → (∀ p, p < q → ¬ od_J od n a b p) → post (nI q)) (h0 : (∀ q, q < n → ¬ od_J od n a b q) → post (-2)) :
    ∀ f i m, i + f = n → f < m → (∀ q, q < i → ¬ od_J od n a b q) → wY_join_28 post (nI a) (nI b) (nI n) (nI nv) (nI na) (nI np) (nI (nv + na)) (nI (nv + na + 3 * np)) sl iS rS yC yF bo (nI c) yD yA yT od yB yL yE ki fa fb yV eS oC dC yK cP cR oL oV dT dK m (nI i) := by
  intro f
  induction f with
  | zero =>
    intro i m hf hm hd
    obtain ⟨m, rfl⟩ : ∃ e, m = e + 1 := ⟨m - 1, by omega⟩
    have e : i = n := by omega
    subst e
    exact br_t (nI_le (by omega) (by omega)) (h0 hd)
  | succ f ih =>
    intro i m hf hm hd
    obtain ⟨m, rfl⟩ : ∃ e, m = e + 1 := ⟨m - 1, by omega⟩
    refine br_f (nI_ge (by omega) (by omega)) ?_
    rw [bz_i8, bz_i8, nI_clamp (n := a * 8 + i) (by omega), nI_clamp (n := b * 8 + i) (by omega)]
    have no : ¬ od_J od n a b i → wY_join_28 post (nI a) (nI b) (nI n) (nI nv) (nI na) (nI np) (nI (nv + na)) (nI (nv + na + 3 * np)) sl iS rS yC yF bo (nI c) yD yA yT od yB yL yE ki fa fb yV eS oC dC yK cP cR oL oV dT dK m (nI (i + 1)) := fun w => ih (i + 1) m (by omega) (by omega) (lt_s hd w)
    refine And.intro (vp_in_nI (by omega) (by decide)) ?_
    refine br_c (fun e => ⟨9, ?_⟩) (fun e1 => And.intro (vp_in_nI (by omega) (by decide)) ?_)
    · exact yw_j74 hn ha hb (by omega) (fun w => absurd e w.1) no n 0 9 0 (by omega) (by omega) (Or.inr ⟨rfl, fun w => w.1 e⟩)
    refine br_c (fun e => ⟨9, ?_⟩) (fun e2 => ⟨9, ?_⟩)
    · exact yw_j74 hn ha hb (by omega) (fun w => absurd e w.2.1) no n 0 9 0 (by omega) (by omega) (Or.inr ⟨rfl, fun w => w.2.1 e⟩)
    · exact yw_j74 hn ha hb (by omega) (fun w => h1 i (by omega) w hd) no n 0 9 1 (by omega) (by omega) (Or.inl ⟨rfl, e1, e2, lt_0⟩)
theorem yw_join (hn : n ≤ 8) {a b : Nat} (ha : a < n) (hb : b < n) {post : Int32 → Prop} (h1 : ∀ q, q < n → od_J od n a b q → (∀ p, p < q → ¬ od_J od n a b p) → post (nI q)) (h0 : (∀ q, q < n → ¬ od_J od n a b q) → post (-2)) : wpY_join post (nI n, nI nv, nI na, nI np, nI (nv + na), nI (nv + na + 3 * np), sl, iS, rS, yC, yF, bo, nI c, yD, yA, yT, od, yB, yL, yE, ki, fa, fb, yV, eS, oC, dC, yK, cP, cR, oL, oV, dT, dK) (nI a) (nI b) := by
  unfold wpY_join
  dsimp only
  refine yw_in (nI a) (k := n) (by omega) (fun _ _ _ => br_f (by decide) ?_) (fun z => absurd ⟨a, ha, rfl⟩ (bz_nr (by omega) z)) rfl
  refine yw_in (nI b) (k := n) (by omega) (fun _ _ _ => br_f (by decide) ⟨9, ?_⟩) (fun z => absurd ⟨b, hb, rfl⟩ (bz_nr (by omega) z)) rfl
  exact yw_j28 hn (by omega) (by omega) h1 h0 n 0 9 (by omega) (by omega) lt_0
end
end
section
/-! below: one pass of the component, Warshall of the reference -/
def od_b (od : Nat → Int32) : Prop := ∀ i, od i = 0 ∨ od i = 1
/-- reflexive, transitive, antisymmetric on the levels -/
def od_P (od : Nat → Int32) (n : Nat) : Prop := (∀ x, x < 8 → od_le od x x) ∧ (∀ x y z, x < n → y < n → z < n → od_le od x y → od_le od y z → od_le od x z) ∧ (∀ x y, x < n → y < n → od_le od x y → od_le od y x → x = y)
def od_s (od : Nat → Int32) (n a b i : Nat) : Prop := i / 8 < n ∧ i % 8 < n ∧ ¬ od (i / 8 * 8 + a) = 0 ∧ ¬ od (b * 8 + i % 8) = 0
theorem od_ext {f g : Nat → Int32} (hf : od_b f) (hg : od_b g) (h : ∀ i, ¬ f i = 0 ↔ ¬ g i = 0) : f = g := by
  funext i
  have := h i
  rcases hf i with x | x <;> rcases hg i with y | y <;> rw [x, y] at this ⊢
  · exact absurd rfl (this.mpr (by decide))
  · exact absurd rfl (this.mp (by decide))
theorem od_bu {f : Nat → Int32} {k : Nat} (h : od_b f) : od_b (upd f k 1) := by
  intro i
  unfold upd
  split
  · exact Or.inr rfl
  · exact h i
theorem od_uz {f : Nat → Int32} {k i : Nat} : ¬ upd f k 1 i = 0 ↔ (i = k ∨ ¬ f i = 0) := by
  unfold upd
  split
  · rename_i e; exact ⟨fun _ => Or.inl e, fun _ => by decide⟩
  · rename_i e; exact ⟨fun w => Or.inr w, fun w => w.elim (fun z => absurd z e) id⟩
/-- the component's pass before place (x, y) -/
def od_I (od : Nat → Int32) (n a b x y : Nat) (g : Nat → Int32) : Prop := od_b g ∧ ∀ i, ¬ g i = 0 ↔ (¬ od i = 0 ∨ (od_s od n a b i ∧ (i / 8 < x ∨ (i / 8 = x ∧ i % 8 < y))))
theorem od_I_a {od g : Nat → Int32} {n a b x y : Nat} (h : od_I od n a b x y g) (ha : a < 8) : g (x * 8 + a) = 0 ↔ od (x * 8 + a) = 0 := by
  have := h.2 (x * 8 + a)
  unfold od_s at this
  rw [show (x * 8 + a) / 8 = x by omega] at this
  constructor
  · intro z
    exact Classical.byContradiction (fun w => (this.mpr (Or.inl w)) z)
  · intro z
    exact Classical.byContradiction (fun w => (this.mp w).elim (fun q => q z) (fun q => q.1.2.2.1 z))
theorem od_I_b {od g : Nat → Int32} {n a b x y : Nat} (h : od_I od n a b x y g) (hy : y < 8) : g (b * 8 + y) = 0 ↔ od (b * 8 + y) = 0 := by
  have := h.2 (b * 8 + y)
  unfold od_s at this
  rw [show (b * 8 + y) % 8 = y by omega] at this
  constructor
  · intro z
    exact Classical.byContradiction (fun w => (this.mpr (Or.inl w)) z)
  · intro z
    exact Classical.byContradiction (fun w => (this.mp w).elim (fun q => q z) (fun q => q.1.2.2.2 z))
theorem od_I_s {od g : Nat → Int32} {n a b x y : Nat} (h : od_I od n a b x y g) (hy : y < 8) (hn : od (x * 8 + a) = 0 ∨ od (b * 8 + y) = 0) : od_I od n a b x (y + 1) g := by
  refine ⟨h.1, fun i => ?_⟩
  rw [h.2 i]
  constructor
  · rintro (w | ⟨w1, w2⟩)
    · exact Or.inl w
    · exact Or.inr ⟨w1, by omega⟩
  · rintro (w | ⟨w1, w2⟩)
    · exact Or.inl w
    · by_cases e : i / 8 = x ∧ i % 8 = y
      · obtain ⟨w3, w4, w5, w6⟩ := w1
        rw [e.1] at w5; rw [e.2] at w6
        exact absurd hn (fun z => z.elim w5 w6)
      · exact Or.inr ⟨w1, by omega⟩
theorem od_I_w {od g : Nat → Int32} {n a b x y : Nat} (h : od_I od n a b x y g) (hx : x < n) (hy : y < n) (hn : n ≤ 8) (h1 : ¬ od (x * 8 + a) = 0) (h2 : ¬ od (b * 8 + y) = 0) : od_I od n a b x (y + 1) (upd g (x * 8 + y) 1) := by
  refine ⟨od_bu h.1, fun i => ?_⟩
  rw [od_uz, h.2 i]
  constructor
  · rintro (w | w | ⟨w1, w2⟩)
    · subst w
      refine Or.inr ⟨⟨by omega, by omega, ?_, ?_⟩, by omega⟩
      · rw [show (x * 8 + y) / 8 = x by omega]; exact h1
      · rw [show (x * 8 + y) % 8 = y by omega]; exact h2
    · exact Or.inl w
    · exact Or.inr ⟨w1, by omega⟩
  · rintro (w | ⟨w1, w2⟩)
    · exact Or.inr (Or.inl w)
    · by_cases e : i / 8 = x ∧ i % 8 = y
      · exact Or.inl (by omega)
      · exact Or.inr (Or.inr ⟨w1, by omega⟩)
theorem od_I_n {od g : Nat → Int32} {n a b x : Nat} (h : od_I od n a b x n g) : od_I od n a b (x + 1) 0 g := by
  refine ⟨h.1, fun i => ?_⟩
  rw [h.2 i]
  constructor
  · rintro (w | ⟨w1, w2⟩)
    · exact Or.inl w
    · exact Or.inr ⟨w1, by omega⟩
  · rintro (w | ⟨w1, w2⟩)
    · exact Or.inl w
    · exact Or.inr ⟨w1, by have := w1.2.1; omega⟩
/-- the new order -/
def od_N (od : Nat → Int32) (n a b : Nat) (g : Nat → Int32) : Prop := od_b g ∧ ∀ i, ¬ g i = 0 ↔ (¬ od i = 0 ∨ od_s od n a b i)
theorem od_N_u {od f g : Nat → Int32} {n a b : Nat} (h : od_N od n a b f) (h' : od_N od n a b g) : f = g :=
  od_ext h.1 h'.1 (fun i => by rw [h.2 i, h'.2 i])
theorem od_s_at {od : Nat → Int32} {n a b x y : Nat} (hx : x < n) (hy : y < n) (hn : n ≤ 8) : od_s od n a b (x * 8 + y) ↔ (od_le od x a ∧ od_le od b y) := by
  unfold od_s od_le
  rw [show (x * 8 + y) / 8 = x by omega, show (x * 8 + y) % 8 = y by omega]
  exact ⟨fun w => w.2.2, fun w => ⟨hx, hy, w⟩⟩
theorem od_N_at {od g : Nat → Int32} {n a b x y : Nat} (h : od_N od n a b g) (hx : x < n) (hy : y < n) (hn : n ≤ 8) : od_le g x y ↔ (od_le od x y ∨ (od_le od x a ∧ od_le od b y)) := by
  have := h.2 (x * 8 + y)
  rw [od_s_at hx hy hn] at this
  exact this
theorem od_N_P {od g : Nat → Int32} {n a b : Nat} (h : od_N od n a b g) (P : od_P od n) (hn : n ≤ 8) (ha : a < n) (hb : b < n) (hab : a ≠ b → od (b * 8 + a) = 0) : od_P g n := by
  obtain ⟨p1, p2, p3⟩ := P
  have nba : a ≠ b → ¬ od_le od b a := fun w z => z (hab w)
  refine ⟨fun x hx => (h.2 _).mpr (Or.inl (p1 x hx)), fun x y z hx hy hz h1 h2 => ?_, fun x y hx hy h1 h2 => ?_⟩
  · rw [od_N_at h hx hy hn] at h1
    rw [od_N_at h hy hz hn] at h2
    rw [od_N_at h hx hz hn]
    rcases h1 with h1 | ⟨h1, h1'⟩ <;> rcases h2 with h2 | ⟨h2, h2'⟩
    · exact Or.inl (p2 x y z hx hy hz h1 h2)
    · exact Or.inr ⟨p2 x y a hx hy ha h1 h2, h2'⟩
    · exact Or.inr ⟨h1, p2 b y z hb hy hz h1' h2⟩
    · exact Or.inr ⟨h1, h2'⟩
  · rw [od_N_at h hx hy hn] at h1
    rw [od_N_at h hy hx hn] at h2
    by_cases e : a = b
    · subst e
      have h1' : od_le od x y := h1.elim id (fun w => p2 x a y hx ha hy w.1 w.2)
      have h2' : od_le od y x := h2.elim id (fun w => p2 y a x hy ha hx w.1 w.2)
      exact p3 x y hx hy h1' h2'
    · rcases h1 with h1 | ⟨h1, h1'⟩ <;> rcases h2 with h2 | ⟨h2, h2'⟩
      · exact p3 x y hx hy h1 h2
      · exact absurd (p2 b y a hb hy ha (p2 b x y hb hx hy h2' h1) h2) (nba e)
      · exact absurd (p2 b x a hb hx ha (p2 b y x hb hy hx h1' h2) h1) (nba e)
      · exact absurd (p2 b y a hb hy ha h1' h2) (nba e)
section
variable {n nv na np c : Nat} {sl bo pt iS fc rS cT aC tk : Int32} {od jo loB hiB ki fa fb bf ch bs ps pb pp wS wT sB tL ip me eS oC oL oV dC dT dK co cP cR sE eV : Nat → Int32}
theorem xw_bl67 (hn : n ≤ 8) {a b x : Nat} (ha : a < n) (hb : b < n) (hx : x < n) {o0 : Nat → Int32} {post : Int32 → SX → Prop} {J56 : Int32 → (Nat → Int32) → (Nat → Int32) → (Nat → Int32) → (Nat → Int32) → (Nat → Int32) → (Nat → Int32) → (Nat → Int32) → (Nat → Int32) → (Nat → Int32) → (Nat → Int32) → (Nat → Int32) → (Nat → Int32) → (Nat → Int32) → (Nat → Int32) → (Nat → Int32) → (Nat → Int32) → (Nat → Int32) → (Nat → Int32) → (Nat → Int32) → (Nat → Int32) → (Nat → Int32) → (Nat → Int32) → (Nat → Int32) → (Nat → Int32) → (Nat → Int32) → (Nat → Int32) → (Nat → Int32) → (Nat → Int32) → (Nat → Int32) → (Nat → Int32) → (Nat → Int32) → Prop}
    (hJ : ∀ od, od_I o0 n a b (x + 1) 0 od → J56 (nI (x + 1)) od jo loB hiB ki fa fb bf ch bs ps pb pp wS wT sB tL ip me eS oC oL oV dC dT dK co cP cR sE eV) :
    ∀ f y m od, y + f = n → f < m → od_I o0 n a b x y od → wX_below_67 post J56 (nI a) (nI b) (nI x) (nI n) (nI nv) (nI na) (nI np) (nI (nv + na)) (nI (nv + na + 3 * np)) sl bo (nI c) pt iS fc rS cT aC tk m (nI y) od jo loB hiB ki fa fb bf ch bs ps pb pp wS wT sB tL ip me eS oC oL oV dC dT dK co cP cR sE eV := by
  intro f
  induction f with
  | zero =>
    intro y m od hf hm hI
    obtain ⟨m, rfl⟩ : ∃ e, m = e + 1 := ⟨m - 1, by omega⟩
    have e : y = n := by omega
    subst e
    exact br_t (nI_le (by omega) (by omega)) (nm_r (nI_1 x) (hJ od (od_I_n hI)))
  | succ f ih =>
    intro y m od hf hm hI
    obtain ⟨m, rfl⟩ : ∃ e, m = e + 1 := ⟨m - 1, by omega⟩
    refine br_f (nI_ge (by omega) (by omega)) ?_
    rw [bz_i8, bz_i8, bz_i8, nI_clamp (n := x * 8 + a) (by omega), nI_clamp (n := b * 8 + y) (by omega), nI_clamp (n := x * 8 + y) (by omega), nI_1, bz_nar1]
    refine And.intro (vp_in_nI (by omega) (by decide)) ?_
    refine br_c (fun e => nm_e (ih (y + 1) m od (by omega) (by omega) (od_I_s hI (by omega) (Or.inl ((od_I_a hI (by omega)).mp e))))) (fun e1 => And.intro (vp_in_nI (by omega) (by decide)) ?_)
    refine br_c (fun e => nm_e (ih (y + 1) m od (by omega) (by omega) (od_I_s hI (by omega) (Or.inr ((od_I_b hI (by omega)).mp e))))) (fun e2 => And.intro (vp_in_nI (by omega) (by decide)) ?_)
    refine nm_e (nm_e (ih (y + 1) m _ (by omega) (by omega) (od_I_w hI hx (by omega) hn (fun w => e1 ((od_I_a hI (by omega)).mpr w)) (fun w => e2 ((od_I_b hI (by omega)).mpr w)))))
theorem xw_bl56 (hn : n ≤ 8) {a b : Nat} (ha : a < n) (hb : b < n) {o0 : Nat → Int32} {post : Int32 → SX → Prop} (hp : ∀ od, od_N o0 n a b od → post 1 (nI n, nI nv, nI na, nI np, nI (nv + na), nI (nv + na + 3 * np), sl, bo, nI c, pt, iS, fc, rS, cT, aC, tk, od, jo, loB, hiB, ki, fa, fb, bf, ch, bs, ps, pb, pp, wS, wT, sB, tL, ip, me, eS, oC, oL, oV, dC, dT, dK, co, cP, cR, sE, eV)) :
    ∀ f x m od, x + f = n → f < m → od_I o0 n a b x 0 od → wX_below_56 post (nI a) (nI b) (nI n) (nI nv) (nI na) (nI np) (nI (nv + na)) (nI (nv + na + 3 * np)) sl bo (nI c) pt iS fc rS cT aC tk m (nI x) od jo loB hiB ki fa fb bf ch bs ps pb pp wS wT sB tL ip me eS oC oL oV dC dT dK co cP cR sE eV := by
  intro f
  induction f with
  | zero =>
    intro x m od hf hm hI
    obtain ⟨m, rfl⟩ : ∃ e, m = e + 1 := ⟨m - 1, by omega⟩
    have e : x = n := by omega
    subst e
    refine br_t (nI_le (by omega) (by omega)) (hp od ⟨hI.1, fun i => ?_⟩)
    rw [hI.2 i]
    constructor
    · rintro (w | w)
      · exact Or.inl w
      · exact Or.inr w.1
    · rintro (w | w)
      · exact Or.inl w
      · exact Or.inr ⟨w, Or.inl w.1⟩
  | succ f ih =>
    intro x m od hf hm hI
    obtain ⟨m, rfl⟩ : ∃ e, m = e + 1 := ⟨m - 1, by omega⟩
    refine br_f (nI_ge (by omega) (by omega)) ⟨9, ?_⟩
    exact xw_bl67 hn ha hb (by omega) (fun od hI' => ih (x + 1) m od (by omega) (by omega) hI') n 0 9 od (by omega) (by omega) hI
end
/-- the reference's stages -/
def od_F (od : Nat → Int32) (n a b k x y : Nat) (g0 g : Nat → Int32) : Prop := od_b g ∧ (∀ i, ¬ g0 i = 0 → ¬ g i = 0) ∧ (∀ i, ¬ g i = 0 → (¬ od i = 0 ∨ od_s od n a b i)) ∧
  (∀ p q, p < n → q < n → (p < x ∨ (p = x ∧ q < y)) → od_le g0 p k → od_le g0 k q → od_le g p q)
def od_E (od : Nat → Int32) (n a b k : Nat) (g : Nat → Int32) : Prop := od_b g ∧ (∀ i, (¬ od i = 0 ∨ i = a * 8 + b) → ¬ g i = 0) ∧ (∀ i, ¬ g i = 0 → (¬ od i = 0 ∨ od_s od n a b i)) ∧
  (a < k → ∀ p, p < n → od_le od p a → od_le g p b) ∧ (b < k → ∀ q, q < n → od_le od b q → od_le g a q) ∧ (a < k → b < k → ∀ p q, p < n → q < n → od_le od p a → od_le od b q → od_le g p q)
theorem od_Fs {od g0 g : Nat → Int32} {n a b k x y : Nat} (h : od_F od n a b k x y g0 g) (hn : od_le g0 x k → od_le g0 k y → False) : od_F od n a b k x (y + 1) g0 g := by
  obtain ⟨h1, h2, h3, h4⟩ := h
  refine ⟨h1, h2, h3, fun p q hp hq hpq l1 l2 => ?_⟩
  by_cases e : p = x ∧ q = y
  · obtain ⟨e1, e2⟩ := e
    subst e1; subst e2
    exact absurd l2 (hn l1)
  · exact h4 p q hp hq (by omega) l1 l2
theorem od_Fw {od g0 g : Nat → Int32} {n a b k x y : Nat} (h : od_F od n a b k x y g0 g) (P : od_P od n) (hn : n ≤ 8) (ha : a < n) (hb : b < n) (hk : k < n) (hx : x < n) (hy : y < n) (l1 : od_le g x k) (l2 : od_le g k y) : od_F od n a b k x (y + 1) g0 (upd g (x * 8 + y) 1) := by
  obtain ⟨h1, h2, h3, h4⟩ := h
  obtain ⟨p1, p2, p3⟩ := P
  refine ⟨od_bu h1, fun i w => od_uz.mpr (Or.inr (h2 i w)), fun i w => ?_, fun p q hp hq hpq m1 m2 => ?_⟩
  · rcases od_uz.mp w with e | w
    · subst e
      have c1 := h3 _ l1
      have c2 := h3 _ l2
      rw [od_s_at hx hk hn] at c1
      rw [od_s_at hk hy hn] at c2
      rw [od_s_at hx hy hn]
      rcases c1 with c1 | ⟨c1, c1'⟩ <;> rcases c2 with c2 | ⟨c2, c2'⟩
      · exact Or.inl (p2 x k y hx hk hy c1 c2)
      · exact Or.inr ⟨p2 x k a hx hk ha c1 c2, c2'⟩
      · exact Or.inr ⟨c1, p2 b k y hb hk hy c1' c2⟩
      · exact Or.inr ⟨c1, c2'⟩
    · exact h3 i w
  · unfold od_le
    rw [od_uz]
    by_cases e : p = x ∧ q = y
    · exact Or.inl (by omega)
    · exact Or.inr (h4 p q hp hq (by omega) m1 m2)
theorem od_Fn {od g0 g : Nat → Int32} {n a b k x : Nat} (h : od_F od n a b k x n g0 g) : od_F od n a b k (x + 1) 0 g0 g := by
  obtain ⟨h1, h2, h3, h4⟩ := h
  exact ⟨h1, h2, h3, fun p q hp hq hpq l1 l2 => h4 p q hp hq (by omega) l1 l2⟩
theorem od_F0 {od g : Nat → Int32} {n a b k : Nat} (h : od_E od n a b k g) : od_F od n a b k 0 0 g g := ⟨h.1, fun _ w => w, h.2.2.1, fun p q hp hq hpq => by omega⟩
theorem od_FE {od g0 g : Nat → Int32} {n a b k : Nat} (P : od_P od n) (h0 : od_E od n a b k g0) (h : od_F od n a b k n 0 g0 g) (ha : a < n) (hb : b < n) : od_E od n a b (k + 1) g := by
  obtain ⟨e1, e2, e3, e4, e5, e6⟩ := h0
  obtain ⟨h1, h2, h3, h4⟩ := h
  have S : ∀ p q, p < n → q < n → od_le g0 p k → od_le g0 k q → od_le g p q := fun p q hp hq => h4 p q hp hq (Or.inl hp)
  have R : ∀ p q, od_le od p q → od_le g0 p q := fun p q w => e2 _ (Or.inl w)
  have AB : od_le g0 a b := e2 _ (Or.inr rfl)
  have U : ∀ p q, od_le g0 p q → od_le g p q := fun p q w => h2 _ w
  have E4 : a < k + 1 → ∀ p, p < n → od_le od p a → od_le g p b := by
    intro w p hp l
    by_cases e : a = k
    · subst e; exact S p b hp hb (R _ _ l) AB
    · exact U _ _ (e4 (by omega) p hp l)
  have E5 : b < k + 1 → ∀ q, q < n → od_le od b q → od_le g a q := by
    intro w q hq l
    by_cases e : b = k
    · subst e; exact S a q ha hq AB (R _ _ l)
    · exact U _ _ (e5 (by omega) q hq l)
  refine ⟨h1, fun i w => h2 i (e2 i w), h3, E4, E5, fun w1 w2 p q hp hq l1 l2 => ?_⟩
  by_cases ea : a = k
  · by_cases eb : b = k
    · subst ea; subst eb
      exact S p q hp hq (R _ _ l1) (R _ _ l2)
    · subst ea
      exact S p q hp hq (R _ _ l1) (e5 (by omega) q hq l2)
  · by_cases eb : b = k
    · subst eb
      exact S p q hp hq (e4 (by omega) p hp l1) (R _ _ l2)
    · exact U _ _ (e6 (by omega) (by omega) p q hp hq l1 l2)
theorem od_EN {od g : Nat → Int32} {n a b : Nat} (hn : n ≤ 8) (h : od_E od n a b n g) (ha : a < n) (hb : b < n) : od_N od n a b g := by
  obtain ⟨e1, e2, e3, e4, e5, e6⟩ := h
  refine ⟨e1, fun i => ⟨e3 i, fun w => ?_⟩⟩
  rcases w with w | w
  · exact e2 i (Or.inl w)
  · obtain ⟨w1, w2, w3, w4⟩ := w
    have := e6 ha hb (i / 8) (i % 8) w1 w2 w3 w4
    unfold od_le at this
    rw [show i / 8 * 8 + i % 8 = i by omega] at this
    exact this
section
variable {n nv na np c : Nat} {sl iS rS yC yF bo yD yA yT : Int32} {od yB yL yE ki fa fb yV eS oC dC yK cP cR oL oV dT dK : Nat → Int32}
theorem yw_bl89 (hn : n ≤ 8) {a b k x : Nat} (ha : a < n) (hb : b < n) (hk : k < n) (hx : x < n) {o0 g0 : Nat → Int32} (P : od_P o0 n) {post : Int32 → SY → Prop} {J66 J77 : Int32 → (Nat → Int32) → (Nat → Int32) → (Nat → Int32) → (Nat → Int32) → (Nat → Int32) → (Nat → Int32) → (Nat → Int32) → (Nat → Int32) → (Nat → Int32) → (Nat → Int32) → (Nat → Int32) → (Nat → Int32) → (Nat → Int32) → (Nat → Int32) → (Nat → Int32) → (Nat → Int32) → (Nat → Int32) → (Nat → Int32) → Prop}
    (hJ : ∀ od, od_F o0 n a b k (x + 1) 0 g0 od → J77 (nI (x + 1)) od yB yL yE ki fa fb yV eS oC dC yK cP cR oL oV dT dK) :
    ∀ f y m od, y + f = n → f < m → od_F o0 n a b k x y g0 od → wY_below_89 post J66 J77 (nI k) (nI x) (nI n) (nI nv) (nI na) (nI np) (nI (nv + na)) (nI (nv + na + 3 * np)) sl iS rS yC yF bo (nI c) yD yA yT m (nI y) od yB yL yE ki fa fb yV eS oC dC yK cP cR oL oV dT dK := by
  intro f
  induction f with
  | zero =>
    intro y m od hf hm hI
    obtain ⟨m, rfl⟩ : ∃ e, m = e + 1 := ⟨m - 1, by omega⟩
    have e : y = n := by omega
    subst e
    exact br_t (nI_le (by omega) (by omega)) (nm_r (nI_1 x) (hJ od (od_Fn hI)))
  | succ f ih =>
    intro y m od hf hm hI
    obtain ⟨m, rfl⟩ : ∃ e, m = e + 1 := ⟨m - 1, by omega⟩
    refine br_f (nI_ge (by omega) (by omega)) ?_
    rw [bz_i8, bz_i8, bz_i8, nI_clamp (n := x * 8 + k) (by omega), nI_clamp (n := k * 8 + y) (by omega), nI_clamp (n := x * 8 + y) (by omega), nI_1, bz_nar1]
    refine And.intro (vp_in_nI (by omega) (by decide)) ?_
    refine br_c (fun e => nm_e (ih (y + 1) m od (by omega) (by omega) (od_Fs hI (fun w _ => hI.2.1 _ w e)))) (fun e1 => And.intro (vp_in_nI (by omega) (by decide)) ?_)
    refine br_c (fun e => nm_e (ih (y + 1) m od (by omega) (by omega) (od_Fs hI (fun _ w => hI.2.1 _ w e)))) (fun e2 => And.intro (vp_in_nI (by omega) (by decide)) ?_)
    refine nm_e (nm_e (ih (y + 1) m _ (by omega) (by omega) (od_Fw hI P hn ha hb hk hx (by omega) e1 e2)))
theorem yw_bl77 (hn : n ≤ 8) {a b k : Nat} (ha : a < n) (hb : b < n) (hk : k < n) {o0 g0 : Nat → Int32} (P : od_P o0 n) {post : Int32 → SY → Prop} {J66 : Int32 → (Nat → Int32) → (Nat → Int32) → (Nat → Int32) → (Nat → Int32) → (Nat → Int32) → (Nat → Int32) → (Nat → Int32) → (Nat → Int32) → (Nat → Int32) → (Nat → Int32) → (Nat → Int32) → (Nat → Int32) → (Nat → Int32) → (Nat → Int32) → (Nat → Int32) → (Nat → Int32) → (Nat → Int32) → (Nat → Int32) → Prop}
    (hJ : ∀ od, od_F o0 n a b k n 0 g0 od → J66 (nI (k + 1)) od yB yL yE ki fa fb yV eS oC dC yK cP cR oL oV dT dK) :
    ∀ f x m od, x + f = n → f < m → od_F o0 n a b k x 0 g0 od → wY_below_77 post J66 (nI k) (nI n) (nI nv) (nI na) (nI np) (nI (nv + na)) (nI (nv + na + 3 * np)) sl iS rS yC yF bo (nI c) yD yA yT m (nI x) od yB yL yE ki fa fb yV eS oC dC yK cP cR oL oV dT dK := by
  intro f
  induction f with
  | zero =>
    intro x m od hf hm hI
    obtain ⟨m, rfl⟩ : ∃ e, m = e + 1 := ⟨m - 1, by omega⟩
    have e : x = n := by omega
    subst e
    exact br_t (nI_le (by omega) (by omega)) (nm_r (nI_1 k) (hJ od hI))
  | succ f ih =>
    intro x m od hf hm hI
    obtain ⟨m, rfl⟩ : ∃ e, m = e + 1 := ⟨m - 1, by omega⟩
    refine br_f (nI_ge (by omega) (by omega)) ⟨9, ?_⟩
    exact yw_bl89 hn ha hb hk (by omega) P (fun od hI' => ih (x + 1) m od (by omega) (by omega) hI') n 0 9 od (by omega) (by omega) hI
theorem yw_bl66 (hn : n ≤ 8) {a b : Nat} (ha : a < n) (hb : b < n) {o0 : Nat → Int32} (P : od_P o0 n) {post : Int32 → SY → Prop} (hp : ∀ od, od_N o0 n a b od → post 1 (nI n, nI nv, nI na, nI np, nI (nv + na), nI (nv + na + 3 * np), sl, iS, rS, yC, yF, bo, nI c, yD, yA, yT, od, yB, yL, yE, ki, fa, fb, yV, eS, oC, dC, yK, cP, cR, oL, oV, dT, dK)) :
    ∀ f k m od, k + f = n → f < m → od_E o0 n a b k od → wY_below_66 post (nI n) (nI nv) (nI na) (nI np) (nI (nv + na)) (nI (nv + na + 3 * np)) sl iS rS yC yF bo (nI c) yD yA yT m (nI k) od yB yL yE ki fa fb yV eS oC dC yK cP cR oL oV dT dK := by
  intro f
  induction f with
  | zero =>
    intro k m od hf hm hI
    obtain ⟨m, rfl⟩ : ∃ e, m = e + 1 := ⟨m - 1, by omega⟩
    have e : k = n := by omega
    subst e
    exact br_t (nI_le (by omega) (by omega)) (hp od (od_EN hn hI ha hb))
  | succ f ih =>
    intro k m od hf hm hI
    obtain ⟨m, rfl⟩ : ∃ e, m = e + 1 := ⟨m - 1, by omega⟩
    refine br_f (nI_ge (by omega) (by omega)) ⟨9, ?_⟩
    exact yw_bl77 hn ha hb (by omega) P (fun od hF => ih (k + 1) m od (by omega) (by omega) (od_FE P hI hF ha hb)) n 0 9 od (by omega) (by omega) (od_F0 hI)
theorem od_E0 {od : Nat → Int32} {a b n : Nat} (B : od_b od) (P : od_P od n) (hn : n ≤ 8) (ha : a < n) (hb : b < n) : od_E od n a b 0 (upd od (a * 8 + b) 1) := by
  refine ⟨od_bu B, fun i w => od_uz.mpr w.symm, fun i w => ?_, fun w => by omega, fun w => by omega, fun w => by omega⟩
  rcases od_uz.mp w with e | w
  · subst e
    exact Or.inr ((od_s_at ha hb hn).mpr ⟨P.1 a (by omega), P.1 b (by omega)⟩)
  · exact Or.inl w
theorem yw_bl52 (hn : n ≤ 8) {a b : Nat} (ha : a < n) (hb : b < n) (B : od_b od) (P : od_P od n) {post : Int32 → SY → Prop} (hp : ∀ g, od_N od n a b g → post 1 (nI n, nI nv, nI na, nI np, nI (nv + na), nI (nv + na + 3 * np), sl, iS, rS, yC, yF, bo, nI c, yD, yA, yT, g, yB, yL, yE, ki, fa, fb, yV, eS, oC, dC, yK, cP, cR, oL, oV, dT, dK)) : wY_below_52 post (nI a) (nI b) (nI n) (nI nv) (nI na) (nI np) (nI (nv + na)) (nI (nv + na + 3 * np)) sl iS rS yC yF bo (nI c) yD yA yT od yB yL yE ki fa fb yV eS oC dC yK cP cR oL oV dT dK := by
  show vp_in (nI a * 8 + nI b) 64 ∧ _
  rw [bz_i8, nI_clamp (n := a * 8 + b) (by omega), bz_nar1]
  refine And.intro (vp_in_nI (by omega) (by decide)) (nm_e ⟨9, ?_⟩)
  exact yw_bl66 hn ha hb P hp n 0 9 _ (by omega) (by omega) (od_E0 B P hn ha hb)
end
end
section
/-! seal -/
def od_lst (od : Nat → Int32) (n q : Nat) : Prop := ∀ d, d < n → od_le od q d
def od_top (od : Nat → Int32) (n q : Nat) : Prop := ∀ d, d < n → od_le od d q
def od_fl (k : Nat) (v : Int32) (f : Nat → Int32) : Nat → Int32 := fun i => if i < k then v else f i
theorem od_flS {k : Nat} {v : Int32} {f : Nat → Int32} : upd (od_fl k v f) k v = od_fl (k + 1) v f := by
  funext i
  unfold upd od_fl
  by_cases e : i = k
  · subst e; simp
  · by_cases e2 : i < k
    · rw [if_neg e, if_pos e2, if_pos (by omega)]
    · rw [if_neg e, if_neg e2, if_neg (by omega)]
theorem od_fl0 {v : Int32} {f : Nat → Int32} : od_fl 0 v f = f := by
  funext i; unfold od_fl; rw [if_neg (by omega)]
theorem od_Jc {od : Nat → Int32} {n a b q : Nat} (h : od_J od n a b q) : od_J od n b a q := ⟨h.2.1, h.1, fun d hd h1 h2 => h.2.2 d hd h2 h1⟩
theorem od_Ju {od : Nat → Int32} {n a b q q' : Nat} (P : od_P od n) (hq : q < n) (hq' : q' < n) (h : od_J od n a b q) (h' : od_J od n a b q') : q = q' :=
  P.2.2 q q' hq hq' (h.2.2 q' hq' h'.1 h'.2.1) (h'.2.2 q hq h.1 h.2.1)
section
variable {n nv na np c : Nat} {sl bo pt iS fc rS cT aC tk : Int32} {od jo loB hiB ki fa fb bf ch bs ps pb pp wS wT sB tL ip me eS oC oL oV dC dT dK co cP cR sE eV : Nat → Int32}
theorem xw_fl14 (hn : n ≤ 8) {q : Nat} (hq : q < n) {post : Int32 → Prop} {J2 : Int32 → Prop} (h1 : od_lst od n q → post (nI q)) (h0 : ¬ od_lst od n q → J2 (nI (q + 1))) :
    ∀ f i m z, i + f = n → f < m → ((z = 1 ∧ ∀ d, d < i → od_le od q d) ∨ (z = 0 ∧ ¬ od_lst od n q)) → wX_findLeast_14 post J2 (nI q) (nI n) (nI nv) (nI na) (nI np) (nI (nv + na)) (nI (nv + na + 3 * np)) sl bo (nI c) pt iS fc rS cT aC tk od jo loB hiB ki fa fb bf ch bs ps pb pp wS wT sB tL ip me eS oC oL oV dC dT dK co cP cR sE eV m z (nI i) := by
  intro f
  induction f with
  | zero =>
    intro i m z hf hm hz
    obtain ⟨m, rfl⟩ : ∃ e, m = e + 1 := ⟨m - 1, by omega⟩
    have e : i = n := by omega
    subst e
    refine br_t (nI_le (by omega) (by omega)) ?_
    rcases hz with ⟨rfl, z1⟩ | ⟨rfl, z2⟩
    · exact br_f (by decide) (h1 z1)
    · exact br_t rfl (nm_r (nI_1 q) (h0 z2))
  | succ f ih =>
    intro i m z hf hm hz
    obtain ⟨m, rfl⟩ : ∃ e, m = e + 1 := ⟨m - 1, by omega⟩
    refine br_f (nI_ge (by omega) (by omega)) ?_
    rw [bz_i8, nI_clamp (n := q * 8 + i) (by omega), nI_1]
    refine And.intro (vp_in_nI (by omega) (by decide)) ?_
    refine br_c (fun e => nm_e (ih (i + 1) m 0 (by omega) (by omega) (Or.inr ⟨rfl, fun w => w i (by omega) e⟩))) (fun e => nm_e (ih (i + 1) m z (by omega) (by omega) ?_))
    rcases hz with ⟨z0, z1⟩ | z
    · exact Or.inl ⟨z0, lt_s z1 e⟩
    · exact Or.inr z
theorem xw_fl2 (hn : n ≤ 8) {post : Int32 → Prop} (h1 : ∀ q, q < n → od_lst od n q → post (nI q)) (h0 : (∀ q, q < n → ¬ od_lst od n q) → post (-2)) :
    ∀ f i m, i + f = n → f < m → (∀ q, q < i → ¬ od_lst od n q) → wX_findLeast_2 post (nI n) (nI nv) (nI na) (nI np) (nI (nv + na)) (nI (nv + na + 3 * np)) sl bo (nI c) pt iS fc rS cT aC tk od jo loB hiB ki fa fb bf ch bs ps pb pp wS wT sB tL ip me eS oC oL oV dC dT dK co cP cR sE eV m (nI i) := by
  intro f
  induction f with
  | zero =>
    intro i m hf hm hd
    obtain ⟨m, rfl⟩ : ∃ e, m = e + 1 := ⟨m - 1, by omega⟩
    have e : i = n := by omega
    subst e
    exact br_t (nI_le (by omega) (by omega)) (h0 hd)
  | succ f ih =>
    intro i m hf hm hd
    obtain ⟨m, rfl⟩ : ∃ e, m = e + 1 := ⟨m - 1, by omega⟩
    refine br_f (nI_ge (by omega) (by omega)) ⟨9, ?_⟩
    exact xw_fl14 hn (by omega) (h1 i (by omega)) (fun w => ih (i + 1) m (by omega) (by omega) (lt_s hd w)) n 0 9 1 (by omega) (by omega) (Or.inl ⟨rfl, lt_0⟩)
theorem xw_fl (hn : n ≤ 8) {post : Int32 → Prop} (h1 : ∀ q, q < n → od_lst od n q → post (nI q)) (h0 : (∀ q, q < n → ¬ od_lst od n q) → post (-2)) : wpX_findLeast post (nI n, nI nv, nI na, nI np, nI (nv + na), nI (nv + na + 3 * np), sl, bo, nI c, pt, iS, fc, rS, cT, aC, tk, od, jo, loB, hiB, ki, fa, fb, bf, ch, bs, ps, pb, pp, wS, wT, sB, tL, ip, me, eS, oC, oL, oV, dC, dT, dK, co, cP, cR, sE, eV) :=
  ⟨9, xw_fl2 hn h1 h0 n 0 9 (by omega) (by omega) lt_0⟩
/-- the table of joins, filled before place (a, b) -/
def od_T (od : Nat → Int32) (n a b : Nat) (jo : Nat → Int32) : Prop := ∀ p q, p < n → q < n → (p < a ∨ (p = a ∧ q < b)) → ∃ r, r < n ∧ od_J od n p q r ∧ jo (p * 8 + q) = nI r
theorem xw_fj12 (hn : n ≤ 8) {a : Nat} (ha : a < n) {post : Int32 → SX → Prop} {J2 : Int32 → (Nat → Int32) → (Nat → Int32) → (Nat → Int32) → (Nat → Int32) → (Nat → Int32) → (Nat → Int32) → (Nat → Int32) → (Nat → Int32) → (Nat → Int32) → (Nat → Int32) → (Nat → Int32) → (Nat → Int32) → (Nat → Int32) → (Nat → Int32) → (Nat → Int32) → (Nat → Int32) → (Nat → Int32) → (Nat → Int32) → (Nat → Int32) → (Nat → Int32) → (Nat → Int32) → (Nat → Int32) → (Nat → Int32) → (Nat → Int32) → (Nat → Int32) → (Nat → Int32) → (Nat → Int32) → (Nat → Int32) → (Nat → Int32) → (Nat → Int32) → (Nat → Int32) → Prop} (hJ : ∀ jo, od_T od n (a + 1) 0 jo → J2 (nI (a + 1)) od jo loB hiB ki fa fb bf ch bs ps pb pp wS wT sB tL ip me eS oC oL oV dC dT dK co cP cR sE eV) (h0 : ∀ p q, p < n → q < n → (∀ r, r < n → ¬ od_J od n p q r) → ∀ jo, post 0 (nI n, nI nv, nI na, nI np, nI (nv + na), nI (nv + na + 3 * np), sl, bo, nI c, pt, iS, fc, rS, cT, aC, tk, od, jo, loB, hiB, ki, fa, fb, bf, ch, bs, ps, pb, pp, wS, wT, sB, tL, ip, me, eS, oC, oL, oV, dC, dT, dK, co, cP, cR, sE, eV)) :
    ∀ f b m jo, b + f = n → f < m → od_T od n a b jo → wX_fillJoins_12 post J2 (nI a) (nI n) (nI nv) (nI na) (nI np) (nI (nv + na)) (nI (nv + na + 3 * np)) sl bo (nI c) pt iS fc rS cT aC tk m (nI b) od jo loB hiB ki fa fb bf ch bs ps pb pp wS wT sB tL ip me eS oC oL oV dC dT dK co cP cR sE eV := by
  intro f
  induction f with
  | zero =>
    intro b m jo hf hm hT
    obtain ⟨m, rfl⟩ : ∃ e, m = e + 1 := ⟨m - 1, by omega⟩
    have e : b = n := by omega
    subst e
    exact br_t (nI_le (by omega) (by omega)) (nm_r (nI_1 a) (hJ jo (fun p q hp hq hpq => hT p q hp hq (by omega))))
  | succ f ih =>
    intro b m jo hf hm hT
    obtain ⟨m, rfl⟩ : ∃ e, m = e + 1 := ⟨m - 1, by omega⟩
    refine br_f (nI_ge (by omega) (by omega)) ?_
    refine xw_fJ hn (a := a) (b := b) (by omega) (by omega) (fun q hq hJ' _ => br_t (nI_pos' (by omega)) ?_) (fun w => br_f (by decide) (h0 a b ha (by omega) w jo))
    rw [bz_i8, nI_clamp (n := a * 8 + b) (by omega), nI_1]
    refine And.intro (vp_in_nI (by omega) (by decide)) (nm_e (nm_e (ih (b + 1) m _ (by omega) (by omega) ?_)))
    intro p r hp hr hpr
    by_cases e : p = a ∧ r = b
    · obtain ⟨e1, e2⟩ := e
      subst e1; subst e2
      exact ⟨q, hq, hJ', pk_us⟩
    · rw [pk_un (by omega)]
      exact hT p r hp hr (by omega)
theorem xw_fj2 (hn : n ≤ 8) {post : Int32 → SX → Prop} (h1 : ∀ jo, od_T od n n 0 jo → post 1 (nI n, nI nv, nI na, nI np, nI (nv + na), nI (nv + na + 3 * np), sl, bo, nI c, pt, iS, fc, rS, cT, aC, tk, od, jo, loB, hiB, ki, fa, fb, bf, ch, bs, ps, pb, pp, wS, wT, sB, tL, ip, me, eS, oC, oL, oV, dC, dT, dK, co, cP, cR, sE, eV)) (h0 : ∀ p q, p < n → q < n → (∀ r, r < n → ¬ od_J od n p q r) → ∀ jo, post 0 (nI n, nI nv, nI na, nI np, nI (nv + na), nI (nv + na + 3 * np), sl, bo, nI c, pt, iS, fc, rS, cT, aC, tk, od, jo, loB, hiB, ki, fa, fb, bf, ch, bs, ps, pb, pp, wS, wT, sB, tL, ip, me, eS, oC, oL, oV, dC, dT, dK, co, cP, cR, sE, eV)) :
    ∀ f a m jo, a + f = n → f < m → od_T od n a 0 jo → wX_fillJoins_2 post (nI n) (nI nv) (nI na) (nI np) (nI (nv + na)) (nI (nv + na + 3 * np)) sl bo (nI c) pt iS fc rS cT aC tk m (nI a) od jo loB hiB ki fa fb bf ch bs ps pb pp wS wT sB tL ip me eS oC oL oV dC dT dK co cP cR sE eV := by
  intro f
  induction f with
  | zero =>
    intro a m jo hf hm hT
    obtain ⟨m, rfl⟩ : ∃ e, m = e + 1 := ⟨m - 1, by omega⟩
    have e : a = n := by omega
    subst e
    exact br_t (nI_le (by omega) (by omega)) (h1 jo hT)
  | succ f ih =>
    intro a m jo hf hm hT
    obtain ⟨m, rfl⟩ : ∃ e, m = e + 1 := ⟨m - 1, by omega⟩
    refine br_f (nI_ge (by omega) (by omega)) ⟨9, ?_⟩
    exact xw_fj12 hn (by omega) (fun jo hT' => ih (a + 1) m jo (by omega) (by omega) hT') h0 n 0 9 jo (by omega) (by omega) hT
theorem xw_fj (hn : n ≤ 8) {post : Int32 → SX → Prop} (h1 : ∀ jo, od_T od n n 0 jo → post 1 (nI n, nI nv, nI na, nI np, nI (nv + na), nI (nv + na + 3 * np), sl, bo, nI c, pt, iS, fc, rS, cT, aC, tk, od, jo, loB, hiB, ki, fa, fb, bf, ch, bs, ps, pb, pp, wS, wT, sB, tL, ip, me, eS, oC, oL, oV, dC, dT, dK, co, cP, cR, sE, eV)) (h0 : ∀ p q, p < n → q < n → (∀ r, r < n → ¬ od_J od n p q r) → ∀ jo, post 0 (nI n, nI nv, nI na, nI np, nI (nv + na), nI (nv + na + 3 * np), sl, bo, nI c, pt, iS, fc, rS, cT, aC, tk, od, jo, loB, hiB, ki, fa, fb, bf, ch, bs, ps, pb, pp, wS, wT, sB, tL, ip, me, eS, oC, oL, oV, dC, dT, dK, co, cP, cR, sE, eV)) : wpX_fillJoins post (nI n, nI nv, nI na, nI np, nI (nv + na), nI (nv + na + 3 * np), sl, bo, nI c, pt, iS, fc, rS, cT, aC, tk, od, jo, loB, hiB, ki, fa, fb, bf, ch, bs, ps, pb, pp, wS, wT, sB, tL, ip, me, eS, oC, oL, oV, dC, dT, dK, co, cP, cR, sE, eV) :=
  ⟨9, xw_fj2 hn h1 h0 n 0 9 jo (by omega) (by omega) (fun p q hp hq hpq => by omega)⟩
theorem xw_se69 (hns : nv + na + 3 * np ≤ 21) {top : Int32} {l0 g0 : Nat → Int32} {post : Int32 → SX → Prop} (hp : post 1 (nI n, nI nv, nI na, nI np, nI (nv + na), nI (nv + na + 3 * np), sl, bo, nI c, pt, iS, fc, rS, cT, aC, tk, od, jo, od_fl (nv + na + 3 * np) bo l0, od_fl (nv + na + 3 * np) top g0, ki, fa, fb, bf, ch, bs, ps, pb, pp, wS, wT, sB, tL, ip, me, eS, oC, oL, oV, dC, dT, dK, co, cP, cR, sE, eV)) :
    ∀ f i m, i + f = nv + na + 3 * np → f < m → wX_seal_69 post top (nI n) (nI nv) (nI na) (nI np) (nI (nv + na)) (nI (nv + na + 3 * np)) sl bo (nI c) pt iS fc rS cT aC tk m (nI i) od jo (od_fl i bo l0) (od_fl i top g0) ki fa fb bf ch bs ps pb pp wS wT sB tL ip me eS oC oL oV dC dT dK co cP cR sE eV := by
  intro f
  induction f with
  | zero =>
    intro i m hf hm
    obtain ⟨m, rfl⟩ : ∃ e, m = e + 1 := ⟨m - 1, by omega⟩
    have e : i = nv + na + 3 * np := by omega
    subst e
    exact br_t (nI_le (by omega) (by omega)) hp
  | succ f ih =>
    intro i m hf hm
    obtain ⟨m, rfl⟩ : ∃ e, m = e + 1 := ⟨m - 1, by omega⟩
    have hi : vp_in (nI i) 32 := vp_in_nI (by omega) (by decide)
    refine br_f (nI_ge (by omega) (by omega)) ?_
    rw [nI_clamp (n := i) (by omega), nI_1, od_flS, od_flS]
    exact And.intro hi (nm_e (And.intro hi (nm_e (nm_e (ih (i + 1) m (by omega) (by omega))))))
theorem xw_se31 (hn : n ≤ 8) (hns : nv + na + 3 * np ≤ 21) (P : od_P od n) (hT : od_T od n n 0 jo) {lst : Int32} {post : Int32 → SX → Prop} (hp : ∀ top, top < n → od_top od n top → post 1 (nI n, nI nv, nI na, nI np, nI (nv + na), nI (nv + na + 3 * np), 1, lst, nI c, pt, iS, fc, rS, cT, aC, tk, od, jo, od_fl (nv + na + 3 * np) lst loB, od_fl (nv + na + 3 * np) (nI top) hiB, ki, fa, fb, bf, ch, bs, ps, pb, pp, wS, wT, sB, tL, ip, me, eS, oC, oL, oV, dC, dT, dK, co, cP, cR, sE, eV)) :
    ∀ f i m t, i + f = n → f < m → t < n → (∀ d, d < i → od_le od d t) → wX_seal_31 post lst (nI n) (nI nv) (nI na) (nI np) (nI (nv + na)) (nI (nv + na + 3 * np)) sl bo (nI c) pt iS fc rS cT aC tk od jo loB hiB ki fa fb bf ch bs ps pb pp wS wT sB tL ip me eS oC oL oV dC dT dK co cP cR sE eV m (nI t) (nI i) := by
  intro f
  induction f with
  | zero =>
    intro i m t hf hm ht hd
    obtain ⟨m, rfl⟩ : ∃ e, m = e + 1 := ⟨m - 1, by omega⟩
    have e : i = n := by omega
    subst e
    refine br_t (nI_le (by omega) (by omega)) ⟨22, ?_⟩
    have q := xw_se69 (n := i) (nv := nv) (na := na) (np := np) (c := c) (sl := 1) (bo := lst) (pt := pt) (iS := iS) (fc := fc) (rS := rS) (cT := cT) (aC := aC) (tk := tk) (od := od) (jo := jo) (ki := ki) (fa := fa) (fb := fb) (bf := bf) (ch := ch) (bs := bs) (ps := ps) (pb := pb) (pp := pp) (wS := wS) (wT := wT) (sB := sB) (tL := tL) (ip := ip) (me := me) (eS := eS) (oC := oC) (oL := oL) (oV := oV) (dC := dC) (dT := dT) (dK := dK) (co := co) (cP := cP) (cR := cR) (sE := sE) (eV := eV) (post := post) hns (top := nI t) (l0 := loB) (g0 := hiB) (hp t ht hd) (nv + na + 3 * np) 0 22 (by omega) (by omega)
    rw [od_fl0, od_fl0] at q
    exact q
  | succ f ih =>
    intro i m t hf hm ht hd
    obtain ⟨m, rfl⟩ : ∃ e, m = e + 1 := ⟨m - 1, by omega⟩
    refine br_f (nI_ge (by omega) (by omega)) ?_
    obtain ⟨r, hr, hJ, e⟩ := hT t i ht (by omega) (Or.inl ht)
    rw [bz_i8, nI_clamp (n := t * 8 + i) (by omega), nI_1, e]
    refine And.intro (vp_in_nI (by omega) (by decide)) (nm_e (nm_e (ih (i + 1) m r (by omega) (by omega) hr ?_)))
    refine lt_s (fun d h' => ?_) hJ.2.1
    exact P.2.1 d t r (by omega) ht hr (hd d h') hJ.1
theorem xw_seal (hn : n ≤ 8) (hn1 : 1 ≤ n) (hns : nv + na + 3 * np ≤ 21) (P : od_P od n) (hs : sl = 0) {post : Int32 → SX → Prop}
    (h0 : ((∀ q, q < n → ¬ od_lst od n q) ∨ ∃ p q, p < n ∧ q < n ∧ ∀ r, r < n → ¬ od_J od n p q r) → ∀ jo, post 0 (nI n, nI nv, nI na, nI np, nI (nv + na), nI (nv + na + 3 * np), sl, bo, nI c, pt, iS, fc, rS, cT, aC, tk, od, jo, loB, hiB, ki, fa, fb, bf, ch, bs, ps, pb, pp, wS, wT, sB, tL, ip, me, eS, oC, oL, oV, dC, dT, dK, co, cP, cR, sE, eV))
    (h1 : ∀ q, q < n → od_lst od n q → ∀ jo, od_T od n n 0 jo → ∀ top, top < n → od_top od n top → post 1 (nI n, nI nv, nI na, nI np, nI (nv + na), nI (nv + na + 3 * np), 1, nI q, nI c, pt, iS, fc, rS, cT, aC, tk, od, jo, od_fl (nv + na + 3 * np) (nI q) loB, od_fl (nv + na + 3 * np) (nI top) hiB, ki, fa, fb, bf, ch, bs, ps, pb, pp, wS, wT, sB, tL, ip, me, eS, oC, oL, oV, dC, dT, dK, co, cP, cR, sE, eV)) : wpX_seal post (nI n, nI nv, nI na, nI np, nI (nv + na), nI (nv + na + 3 * np), sl, bo, nI c, pt, iS, fc, rS, cT, aC, tk, od, jo, loB, hiB, ki, fa, fb, bf, ch, bs, ps, pb, pp, wS, wT, sB, tL, ip, me, eS, oC, oL, oV, dC, dT, dK, co, cP, cR, sE, eV) := by
  refine br_t hs ?_
  refine xw_fl hn (fun q hq hl => br_f (nI_pos (by omega)) ?_) (fun w => br_t (by decide) (h0 (Or.inl w) jo))
  refine xw_fj hn (fun jo hT => br_f (by decide) ⟨9, ?_⟩) (fun p q hp hq w jo => br_t rfl (h0 (Or.inr ⟨p, q, hp, hq, w⟩) jo))
  exact xw_se31 hn hns P hT (h1 q hq hl jo hT) n 0 9 0 (by omega) (by omega) (by omega) lt_0
end
section
variable {n nv na np c : Nat} {sl iS rS yC yF bo yD yA yT : Int32} {od yB yL yE ki fa fb yV eS oC dC yK cP cR oL oV dT dK : Nat → Int32}
theorem yw_se116 (hns : nv + na + 3 * np ≤ 21) {lst top : Int32} {l0 g0 : Nat → Int32} {post : Int32 → SY → Prop} (hp : post 1 (nI n, nI nv, nI na, nI np, nI (nv + na), nI (nv + na + 3 * np), 1, iS, rS, yC, yF, lst, nI c, yD, yA, yT, od, gl 32 (od_fl (nv + na + 3 * np) lst l0) (od_fl (nv + na + 3 * np) top g0), yL, yE, ki, fa, fb, yV, eS, oC, dC, yK, cP, cR, oL, oV, dT, dK)) :
    ∀ f i m, i + f = nv + na + 3 * np → f < m → wY_seal_116 post lst top (nI n) (nI nv) (nI na) (nI np) (nI (nv + na)) (nI (nv + na + 3 * np)) sl iS rS yC yF bo (nI c) yD yA yT m (nI i) od (gl 32 (od_fl i lst l0) (od_fl i top g0)) yL yE ki fa fb yV eS oC dC yK cP cR oL oV dT dK := by
  intro f
  induction f with
  | zero =>
    intro i m hf hm
    obtain ⟨m, rfl⟩ : ∃ e, m = e + 1 := ⟨m - 1, by omega⟩
    have e : i = nv + na + 3 * np := by omega
    subst e
    exact br_t (nI_le (by omega) (by omega)) hp
  | succ f ih =>
    intro i m hf hm
    obtain ⟨m, rfl⟩ : ∃ e, m = e + 1 := ⟨m - 1, by omega⟩
    refine br_f (nI_ge (by omega) (by omega)) ?_
    rw [show (32 : Int32) = nI 32 from rfl, nI_add, nI_clamp (n := i) (by omega), nI_clamp (n := 32 + i) (by omega), nI_1, gl_ulo (by omega), od_flS]
    refine And.intro (vp_in_nI (by omega) (by decide)) (nm_e (And.intro (vp_in_nI (by omega) (by decide)) ?_))
    rw [gl_uhi, od_flS]
    exact nm_e (nm_e (ih (i + 1) m (by omega) (by omega)))
theorem yw_se30 (hn : n ≤ 8) (P : od_P od n) {q g : Nat} (hq : q < n) (hg : g < n) (hgt : ∀ d, d < q → od_le od d g) {l : Int32} {post : Int32 → SY → Prop} {J16 : Int32 → Int32 → Int32 → Prop}
    (h0 : (∃ p q, p < n ∧ q < n ∧ ∀ r, r < n → ¬ od_J od n p q r) → post 0 (nI n, nI nv, nI na, nI np, nI (nv + na), nI (nv + na + 3 * np), sl, iS, rS, yC, yF, bo, nI c, yD, yA, yT, od, yB, yL, yE, ki, fa, fb, yV, eS, oC, dC, yK, cP, cR, oL, oV, dT, dK)) (hJ : ∀ r, r < n → (∀ d, d < q + 1 → od_le od d r) → (∀ d, d < n → ∃ r, r < n ∧ od_J od n q d r) → (od_lst od n q → J16 (nI q) (nI r) (nI (q + 1))) ∧ (¬ od_lst od n q → J16 l (nI r) (nI (q + 1)))) :
    ∀ f i m z, i + f = n → f < m → ((z = 1 ∧ ∀ d, d < i → od_le od q d) ∨ (z = 0 ∧ ¬ od_lst od n q)) → (∀ d, d < i → ∃ r, r < n ∧ od_J od n q d r) → wY_seal_30 post J16 l (nI g) (nI q) (nI n) (nI nv) (nI na) (nI np) (nI (nv + na)) (nI (nv + na + 3 * np)) sl iS rS yC yF bo (nI c) yD yA yT od yB yL yE ki fa fb yV eS oC dC yK cP cR oL oV dT dK m z (nI i) := by
  intro f
  induction f with
  | zero =>
    intro i m z hf hm hz hr
    obtain ⟨m, rfl⟩ : ∃ e, m = e + 1 := ⟨m - 1, by omega⟩
    have e : i = n := by omega
    subst e
    refine br_t (nI_le (by omega) (by omega)) ?_
    obtain ⟨r0, hr0, hJ0⟩ := hr g hg
    have K : ∀ l', (∀ r, r < i → (∀ d, d < q + 1 → od_le od d r) → J16 l' (nI r) (nI (q + 1))) → wY_seal_93 post J16 l' (nI g) (nI q) (nI i) (nI nv) (nI na) (nI np) (nI (nv + na)) (nI (nv + na + 3 * np)) sl iS rS yC yF bo (nI c) yD yA yT od yB yL yE ki fa fb yV eS oC dC yK cP cR oL oV dT dK := by
      intro l' h'
      refine yw_join hn hg hq (fun r hr' hj _ => ?_) (fun w => absurd (od_Jc hJ0) (w r0 hr0))
      refine nm_r (nI_1 q) (h' r hr' (lt_s (fun d hd => P.2.1 d g r (by omega) hg hr' (hgt d hd) hj.1) hj.2.1))
    rcases hz with ⟨rfl, z1⟩ | ⟨rfl, z2⟩
    · exact br_f (by decide) (K _ (fun r h1 h2 => (hJ r h1 h2 hr).1 z1))
    · exact br_t rfl (K _ (fun r h1 h2 => (hJ r h1 h2 hr).2 z2))
  | succ f ih =>
    intro i m z hf hm hz hr
    obtain ⟨m, rfl⟩ : ∃ e, m = e + 1 := ⟨m - 1, by omega⟩
    refine br_f (nI_ge (by omega) (by omega)) ?_
    refine yw_join hn hq (by omega) (fun r hr' hj _ => ?_) (fun w => br_t rfl (h0 ⟨q, i, hq, by omega, w⟩))
    have hr2 : ∀ d, d < i + 1 → ∃ r, r < n ∧ od_J od n q d r := lt_s hr ⟨r, hr', hj⟩
    refine br_f (fun e => bz_neg (x := -2) (by decide) (k := r) (by omega) e.symm) ?_
    rcases hz with ⟨rfl, z1⟩ | ⟨rfl, z2⟩
    · refine br_f (by decide) ?_
      rw [bz_i8, nI_clamp (n := q * 8 + i) (by omega), nI_1]
      refine And.intro (vp_in_nI (by omega) (by decide)) ?_
      refine br_c (fun e => nm_e (ih (i + 1) m 0 (by omega) (by omega) (Or.inr ⟨rfl, fun w => w i (by omega) e⟩) hr2)) (fun e => nm_e (ih (i + 1) m 1 (by omega) (by omega) (Or.inl ⟨rfl, lt_s z1 e⟩) hr2))
    · exact br_t rfl (nm_r (nI_1 i) (ih (i + 1) m 0 (by omega) (by omega) (Or.inr ⟨rfl, z2⟩) hr2))
theorem yw_se16 (hn : n ≤ 8) (hns : nv + na + 3 * np ≤ 21) (P : od_P od n) {l0 g0 : Nat → Int32} (hyB : yB = gl 32 l0 g0) {post : Int32 → SY → Prop}
    (h0 : ((∀ q, q < n → ¬ od_lst od n q) ∨ ∃ p q, p < n ∧ q < n ∧ ∀ r, r < n → ¬ od_J od n p q r) → post 0 (nI n, nI nv, nI na, nI np, nI (nv + na), nI (nv + na + 3 * np), sl, iS, rS, yC, yF, bo, nI c, yD, yA, yT, od, yB, yL, yE, ki, fa, fb, yV, eS, oC, dC, yK, cP, cR, oL, oV, dT, dK))
    (h1 : ∀ q, q < n → od_lst od n q → (∀ p, p < n → ∀ r, r < n → ∃ x, x < n ∧ od_J od n p r x) → ∀ top, top < n → od_top od n top → post 1 (nI n, nI nv, nI na, nI np, nI (nv + na), nI (nv + na + 3 * np), 1, iS, rS, yC, yF, nI q, nI c, yD, yA, yT, od, gl 32 (od_fl (nv + na + 3 * np) (nI q) l0) (od_fl (nv + na + 3 * np) (nI top) g0), yL, yE, ki, fa, fb, yV, eS, oC, dC, yK, cP, cR, oL, oV, dT, dK)) :
    ∀ f i m l g, i + f = n → f < m → g < n → (∀ d, d < i → od_le od d g) → (∀ p, p < i → ∀ r, r < n → ∃ x, x < n ∧ od_J od n p r x) → ((l = -2 ∧ ∀ q, q < i → ¬ od_lst od n q) ∨ (∃ q, q < n ∧ l = nI q ∧ od_lst od n q)) → wY_seal_16 post (nI n) (nI nv) (nI na) (nI np) (nI (nv + na)) (nI (nv + na + 3 * np)) sl iS rS yC yF bo (nI c) yD yA yT od yB yL yE ki fa fb yV eS oC dC yK cP cR oL oV dT dK m l (nI g) (nI i) := by
  intro f
  induction f with
  | zero =>
    intro i m l g hf hm hg hd hrow hl
    obtain ⟨m, rfl⟩ : ∃ e, m = e + 1 := ⟨m - 1, by omega⟩
    have e : i = n := by omega
    subst e
    refine br_t (nI_le (by omega) (by omega)) ?_
    rcases hl with ⟨rfl, hl⟩ | ⟨q, hq, rfl, hl⟩
    · exact br_t rfl (h0 (Or.inl hl))
    · refine br_f (fun e => bz_neg (x := -2) (by decide) (k := q) (by omega) e.symm) ⟨22, ?_⟩
      have s := yw_se116 (n := i) (nv := nv) (na := na) (np := np) (c := c) (sl := sl) (iS := iS) (rS := rS) (yC := yC) (yF := yF) (bo := bo) (yD := yD) (yA := yA) (yT := yT) (od := od) (yL := yL) (yE := yE) (ki := ki) (fa := fa) (fb := fb) (yV := yV) (eS := eS) (oC := oC) (dC := dC) (yK := yK) (cP := cP) (cR := cR) (oL := oL) (oV := oV) (dT := dT) (dK := dK) (post := post) hns (lst := nI q) (top := nI g) (l0 := l0) (g0 := g0) (h1 q hq hl hrow g hg hd) (nv + na + 3 * np) 0 22 (by omega) (by omega)
      rw [od_fl0, od_fl0, ← hyB] at s
      exact s
  | succ f ih =>
    intro i m l g hf hm hg hd hrow hl
    obtain ⟨m, rfl⟩ : ∃ e, m = e + 1 := ⟨m - 1, by omega⟩
    refine br_f (nI_ge (by omega) (by omega)) ⟨9, ?_⟩
    refine yw_se30 hn P (by omega) hg hd (fun w => h0 (Or.inr w)) (fun r hr hr2 hro => ⟨fun w => ih (i + 1) m (nI i) r (by omega) (by omega) hr hr2 (lt_s hrow hro) (Or.inr ⟨i, by omega, rfl, w⟩), fun w => ih (i + 1) m l r (by omega) (by omega) hr hr2 (lt_s hrow hro) ?_⟩) n 0 9 1 (by omega) (by omega) (Or.inl ⟨rfl, lt_0⟩) (fun d hd' => absurd hd' (Nat.not_lt_zero _))
    rcases hl with ⟨e, hl⟩ | hl
    · exact Or.inl ⟨e, lt_s hl w⟩
    · exact Or.inr hl
theorem yw_seal (hn : n ≤ 8) (hn1 : 1 ≤ n) (hns : nv + na + 3 * np ≤ 21) (P : od_P od n) {l0 g0 : Nat → Int32} (hyB : yB = gl 32 l0 g0) (hs : sl = 0) {post : Int32 → SY → Prop}
    (h0 : ((∀ q, q < n → ¬ od_lst od n q) ∨ ∃ p q, p < n ∧ q < n ∧ ∀ r, r < n → ¬ od_J od n p q r) → post 0 (nI n, nI nv, nI na, nI np, nI (nv + na), nI (nv + na + 3 * np), sl, iS, rS, yC, yF, bo, nI c, yD, yA, yT, od, yB, yL, yE, ki, fa, fb, yV, eS, oC, dC, yK, cP, cR, oL, oV, dT, dK))
    (h1 : ∀ q, q < n → od_lst od n q → (∀ p, p < n → ∀ r, r < n → ∃ x, x < n ∧ od_J od n p r x) → ∀ top, top < n → od_top od n top → post 1 (nI n, nI nv, nI na, nI np, nI (nv + na), nI (nv + na + 3 * np), 1, iS, rS, yC, yF, nI q, nI c, yD, yA, yT, od, gl 32 (od_fl (nv + na + 3 * np) (nI q) l0) (od_fl (nv + na + 3 * np) (nI top) g0), yL, yE, ki, fa, fb, yV, eS, oC, dC, yK, cP, cR, oL, oV, dT, dK)) : wpY_seal post (nI n, nI nv, nI na, nI np, nI (nv + na), nI (nv + na + 3 * np), sl, iS, rS, yC, yF, bo, nI c, yD, yA, yT, od, yB, yL, yE, ki, fa, fb, yV, eS, oC, dC, yK, cP, cR, oL, oV, dT, dK) :=
  br_t hs ⟨9, yw_se16 hn hns P hyB h0 h1 n 0 9 (-2) 0 (by omega) (by omega) (by omega) lt_0 lt_0 (Or.inl ⟨rfl, lt_0⟩)⟩
end
end
section
/-! the component's levels -/
def jn_X (two : Int32) (jo : Nat → Int32) (N : Nat) (J : Nat → Nat → Nat) : Prop := ∀ a b, a < N → b < N → ((two = 0 ∧ jo (a * 8 + b) = nI (J a b)) ∨ (¬ two = 0 ∧ nI a ||| nI b = nI (J a b)))
def xi_H (kd fA fB : Nat → Nat) (n nv na np c N : Nat) (J : Nat → Nat → Nat) (b : Nat) (dl : Nat → Nat) (two bo : Int32) (jo ki fa fb bf ch bs : Nat → Int32) : Prop :=
  (n ≤ 8 ∧ nv ≤ 8 ∧ na ≤ 4 ∧ np ≤ 3 ∧ c ≤ 64 ∧ N ≤ 8) ∧ pg_C kd np c ∧ sm_F kd fA fB n nv na np c ∧ sm_L N J b ∧ zz_k ki kd c ∧ (∀ i, i < c → ¬ kd i = 9 → fa i = nI (fA i)) ∧ (∀ i, i < c → fb i = nI (fB i)) ∧
  px_H kd np c bf ch bs ∧ jn_X two jo N J ∧ ((two = 0 ∧ bo = nI b) ∨ (¬ two = 0 ∧ b = 0)) ∧ (∀ i, i < c → kd i = 14 → dl i < N ∧ ((two = 0 ∧ fa i = nI (dl i)) ∨ (¬ two = 0 ∧ dl i = 0)))
def ws_is (wS : Nat → Int32) (s : Nat → Nat) (k : Nat) : Prop := ∀ j, j < k → wS j = nI (s j)
theorem bz_3 (i : Nat) : 3 * nI i = nI (3 * i) := by rw [show (3 : Int32) = nI 3 from rfl, pk_mul]
theorem bz_31 (i : Nat) : nI (3 * i) + 1 = nI (3 * i + 1) := nI_1 _
theorem bz_32 (i : Nat) : nI (3 * i) + 2 = nI (3 * i + 2) := by rw [show (2 : Int32) = nI 2 from rfl, nI_add]
section
variable {n nv na np c : Nat} {sl bo pt iS fc rS cT aC tk : Int32} {od jo loB hiB ki fa fb bf ch bs ps pb pp wS wT sB tL ip me eS oC oL oV dC dT dK co cP cR sE eV : Nat → Int32}
variable {kd fA fB dl : Nat → Nat} {N b : Nat} {J : Nat → Nat → Nat} {two : Int32}
theorem xw_jn (H : jn_X two jo N J) (hN : N ≤ 8) {x y : Nat} (hx : x < N) (hy : y < N) {post : Int32 → Prop} (h : post (nI (J x y))) {p q : Int32} (hp : p = nI x) (hq : q = nI y) : wpX_joinIn post (nI n, nI nv, nI na, nI np, nI (nv + na), nI (nv + na + 3 * np), sl, bo, nI c, pt, iS, fc, rS, cT, aC, tk, od, jo, loB, hiB, ki, fa, fb, bf, ch, bs, ps, pb, pp, wS, wT, sB, tL, ip, me, eS, oC, oL, oV, dC, dT, dK, co, cP, cR, sE, eV) two p q := by
  subst hp hq
  rcases H x y hx hy with ⟨h1, h2⟩ | ⟨h1, h2⟩
  · refine br_t h1 ?_
    rw [bz_i8, nI_clamp (n := x * 8 + y) (by omega), h2]
    exact And.intro (vp_in_nI (by omega) (by decide)) h
  · refine br_f h1 ?_
    rw [h2]; exact h
theorem xi_c0 (H : px_H kd np c bf ch bs) (C : pg_C kd np c) {i : Nat} (hi : i < c) (h : 0 < pg_ar (kd i)) : ch (3 * i) = nI (i + 1) ∧ i + 1 < c := by
  obtain ⟨a1, a2⟩ := pg_c0 C.1 C.2.1 hi h
  exact ⟨H.2.1 i 0 (i + 1) a1 a2, a1⟩
theorem xi_c1 (H : px_H kd np c bf ch bs) (C : pg_C kd np c) {i : Nat} (hi : i < c) (h : 1 < pg_ar (kd i)) : ch (3 * i + 1) = nI (pg_en kd c (i + 1)) ∧ pg_en kd c (i + 1) < c := by
  obtain ⟨a1, a2⟩ := pg_c0 C.1 C.2.1 hi (by omega)
  obtain ⟨b1, b2, b3⟩ := pg_cS C.1 C.2.1 a1 a2 (by omega)
  exact ⟨H.2.1 i 1 _ b1 b3, b1⟩
theorem xi_c2 (H : px_H kd np c bf ch bs) (C : pg_C kd np c) {i : Nat} (hi : i < c) (h : 2 < pg_ar (kd i)) : ch (3 * i + 2) = nI (pg_en kd c (pg_en kd c (i + 1))) ∧ pg_en kd c (pg_en kd c (i + 1)) < c := by
  obtain ⟨a1, a2⟩ := pg_c0 C.1 C.2.1 hi (by omega)
  obtain ⟨b1, b2, b3⟩ := pg_cS C.1 C.2.1 a1 a2 (by omega)
  obtain ⟨d1, d2, d3⟩ := pg_cS C.1 C.2.1 b1 b3 (by omega)
  exact ⟨H.2.1 i 2 _ d1 d3, d1⟩
theorem xw_le7 (H : xi_H kd fA fB n nv na np c N J b dl two bo jo ki fa fb bf ch bs) {s t : Nat → Nat} (T : sm_T kd fA nv na np c J b dl s t) (hs : ∀ k, k < nv + na + 3 * np → s k < N) (hW : ws_is wS s (nv + na + 3 * np)) {post : SX → Prop}
    (hp : ∀ wT, (∀ q, q < c → 9 ≤ kd q → wT q = nI (t q)) → post (nI n, nI nv, nI na, nI np, nI (nv + na), nI (nv + na + 3 * np), sl, bo, nI c, pt, iS, fc, rS, cT, aC, tk, od, jo, loB, hiB, ki, fa, fb, bf, ch, bs, ps, pb, pp, wS, wT, sB, tL, ip, me, eS, oC, oL, oV, dC, dT, dK, co, cP, cR, sE, eV)) :
    ∀ k m wT, k ≤ c → k < m → (∀ q, k ≤ q → q < c → 9 ≤ kd q → wT q = nI (t q)) → wX_levelExpressions_7 post two (nI n) (nI nv) (nI na) (nI np) (nI (nv + na)) (nI (nv + na + 3 * np)) sl bo (nI c) pt iS fc rS cT aC tk m (nI k + (-1)) od jo loB hiB ki fa fb bf ch bs ps pb pp wS wT sB tL ip me eS oC oL oV dC dT dK co cP cR sE eV := by
  obtain ⟨⟨hn, hnv, hna, hnp, hc, hN⟩, C, F, L, hk, hfa, hfb, hH, hjn, hbo, hdl⟩ := H
  have tb := sm_tb C F L T hs (fun i hi h14 => (hdl i hi h14).1)
  intro k
  induction k with
  | zero =>
    intro m wT h1 h2 hI
    obtain ⟨m, rfl⟩ : ∃ e, m = e + 1 := ⟨m - 1, by omega⟩
    rw [bz_m0]
    exact br_t (by decide) (hp wT (fun q hq h9 => hI q (Nat.zero_le _) hq h9))
  | succ i ih =>
    intro m wT h1 h2 hI
    obtain ⟨m, rfl⟩ : ∃ e, m = e + 1 := ⟨m - 1, by omega⟩
    obtain ⟨k1, k2⟩ := hk i (by omega)
    have iv : vp_in (nI i) 64 := vp_in_nI (by omega) (by decide)
    have ei : (nI i).toNatClampNeg = i := nI_clamp (by omega)
    rw [pk_m1]
    refine br_f (nI_pos (by omega)) ?_
    rw [ei, k1]
    refine And.intro iv (nm_e ?_)
    have W : ∀ x, x = nI (t i) → wX_levelExpressions_7 post two (nI n) (nI nv) (nI na) (nI np) (nI (nv + na)) (nI (nv + na + 3 * np)) sl bo (nI c) pt iS fc rS cT aC tk m (nI i + (-1)) od jo loB hiB ki fa fb bf ch bs ps pb pp wS (upd wT i x) sB tL ip me eS oC oL oV dC dT dK co cP cR sE eV := fun x ex => ih m _ (by omega) (by omega) (fun q q1 q2 q9 => bz_uk (fun e => by rw [ex, e]) (fun e => hI q (by omega) q2 q9))
    by_cases h9 : kd i < 9
    · refine br_t (nI_lt (b := 9) h9 (by decide)) (nm_e (ih m wT (by omega) (by omega) (fun q q1 q2 q9 => hI q ?_ q2 q9)))
      by_cases e : q = i
      · subst e; omega
      · omega
    obtain ⟨e1, e2, e3, e4, e5, e6⟩ := (T i (by omega)).1 (by omega)
    obtain ⟨f1, f2, f3, f4, f5, f6, f7⟩ := F i (by omega)
    have hkk : kd i = 9 ∨ kd i = 10 ∨ kd i = 11 ∨ kd i = 12 ∨ kd i = 13 ∨ kd i = 14 := by omega
    rcases hkk with z | z | z | z | z | z
    · rw [z]
      repeat (first | refine br_t (by decide) ?_ | refine br_f (by decide) ?_)
      rcases hbo with ⟨b1, b2⟩ | ⟨b1, b2⟩
      · exact br_t b1 (And.intro iv (nm_e (nm_e (W _ (by rw [e1 z, b2])))))
      · exact br_f b1 (And.intro iv (nm_e (nm_e (W _ (by rw [e1 z, b2]; rfl)))))
    · have g := hfa i (by omega) (by omega)
      have fv := f2 (Or.inr z)
      rw [z]
      repeat (first | refine br_t (by decide) ?_ | refine br_f (by decide) ?_)
      rw [g, nI_clamp (n := fA i) (by omega), hW (fA i) (by omega)]
      exact And.intro iv (And.intro (vp_in_nI (by omega) (by decide)) (And.intro iv (nm_e (nm_e (W _ (by rw [e2 z]))))))
    · have g := hfa i (by omega) (by omega)
      have fv := f3 (Or.inr z)
      obtain ⟨c1, c2⟩ := xi_c0 hH C (by omega) (i := i) (by rw [z]; decide)
      obtain ⟨a1, a2, a3⟩ := pg_k1 C (i := i) (by omega) (by omega)
      rw [z]
      repeat (first | refine br_t (by decide) ?_ | refine br_f (by decide) ?_)
      rw [g, nI_add, nI_clamp (n := nv + fA i) (by omega), hW (nv + fA i) (by omega), bz_3, nI_clamp (n := 3 * i) (by omega), c1, nI_clamp (n := i + 1) (by omega), hI (i + 1) (by omega) a1 a2]
      refine And.intro iv (And.intro (vp_in_nI (by omega) (by decide)) (And.intro (vp_in_nI (by omega) (by decide)) (And.intro (vp_in_nI (by omega) (by decide)) ?_)))
      refine xw_jn hjn hN (hs _ (by omega)) (tb _ a1) ?_ rfl rfl
      exact And.intro iv (nm_e (nm_e (W _ (by rw [e3 z]))))
    · have fv := f7 (Or.inr z)
      have g := hH.1 i (by omega)
      rw [z]
      repeat (first | refine br_t (by decide) ?_ | refine br_f (by decide) ?_)
      rw [g, bz_3, nI_add, nI_1, nI_clamp (n := nv + na + 3 * pg_bd kd np i + 1) (by omega), hW _ (by omega)]
      exact And.intro iv (And.intro (vp_in_nI (by omega) (by decide)) (And.intro iv (nm_e (nm_e (W _ (by rw [e4 z]))))))
    · obtain ⟨c1, c2⟩ := xi_c0 hH C (by omega) (i := i) (by rw [z]; decide)
      obtain ⟨c3, c4⟩ := xi_c1 hH C (by omega) (i := i) (by rw [z]; decide)
      obtain ⟨a1, a2, a3, a4, a5, a6⟩ := pg_k2 C (i := i) (by omega) (by omega)
      rw [z]
      repeat (first | refine br_t (by decide) ?_ | refine br_f (by decide) ?_)
      rw [bz_3, bz_31, nI_clamp (n := 3 * i) (by omega), nI_clamp (n := 3 * i + 1) (by omega), c1, c3, nI_clamp (n := i + 1) (by omega), nI_clamp (n := pg_en kd c (i + 1)) (by omega), hI (i + 1) (by omega) a1 a2, hI (pg_en kd c (i + 1)) (by omega) a4 a5]
      refine And.intro (vp_in_nI (by omega) (by decide)) (And.intro (vp_in_nI (by omega) (by decide)) (And.intro (vp_in_nI (by omega) (by decide)) (And.intro (vp_in_nI (by omega) (by decide)) ?_)))
      refine xw_jn hjn hN (tb _ a1) (tb _ a4) ?_ rfl rfl
      exact And.intro iv (nm_e (nm_e (W _ (by rw [e5 z]))))
    · rw [z]
      repeat (first | refine br_t (by decide) ?_ | refine br_f (by decide) ?_)
      rcases (hdl i (by omega) z).2 with ⟨b1, b2⟩ | ⟨b1, b2⟩
      · exact br_t b1 (And.intro iv (And.intro iv (nm_e (nm_e (W _ (by rw [e6 z, b2]))))))
      · exact br_f b1 (And.intro iv (nm_e (nm_e (W _ (by rw [e6 z, b2]; rfl)))))
theorem xw_le (H : xi_H kd fA fB n nv na np c N J b dl two bo jo ki fa fb bf ch bs) {s t : Nat → Nat} (T : sm_T kd fA nv na np c J b dl s t) (hs : ∀ k, k < nv + na + 3 * np → s k < N) (hW : ws_is wS s (nv + na + 3 * np)) {post : SX → Prop}
    (hp : ∀ wT, (∀ q, q < c → 9 ≤ kd q → wT q = nI (t q)) → post (nI n, nI nv, nI na, nI np, nI (nv + na), nI (nv + na + 3 * np), sl, bo, nI c, pt, iS, fc, rS, cT, aC, tk, od, jo, loB, hiB, ki, fa, fb, bf, ch, bs, ps, pb, pp, wS, wT, sB, tL, ip, me, eS, oC, oL, oV, dC, dT, dK, co, cP, cR, sE, eV)) : wpX_levelExpressions post (nI n, nI nv, nI na, nI np, nI (nv + na), nI (nv + na + 3 * np), sl, bo, nI c, pt, iS, fc, rS, cT, aC, tk, od, jo, loB, hiB, ki, fa, fb, bf, ch, bs, ps, pb, pp, wS, wT, sB, tL, ip, me, eS, oC, oL, oV, dC, dT, dK, co, cP, cR, sE, eV) two := by
  intro x ex
  refine ⟨66, ?_⟩
  have hc : c ≤ 64 := H.1.2.2.2.2.1
  rw [show x = nI c + (-1) from by rw [ex]; grind]
  exact xw_le7 H T hs hW hp c 66 wT (Nat.le_refl _) (by omega) (fun q q1 q2 => by omega)
def ls_Z (kd : Nat → Nat) (np i q : Nat) : Prop := 9 ≤ kd q ∨ pg_rt kd np q ∨ ∃ j m, pg_ch kd np j m q ∧ j < i
theorem xw_ls68 (H : xi_H kd fA fB n nv na np c N J b dl two bo jo ki fa fb bf ch bs) {s t : Nat → Nat} (T : sm_T kd fA nv na np c J b dl s t) (hs : ∀ k, k < nv + na + 3 * np → s k < N) {post : SX → Prop}
    (hp : ∀ wT, (∀ q, q < c → wT q = nI (t q)) → post (nI n, nI nv, nI na, nI np, nI (nv + na), nI (nv + na + 3 * np), sl, bo, nI c, pt, iS, fc, rS, cT, aC, tk, od, jo, loB, hiB, ki, fa, fb, bf, ch, bs, ps, pb, pp, wS, wT, sB, tL, ip, me, eS, oC, oL, oV, dC, dT, dK, co, cP, cR, sE, eV)) :
    ∀ f i m wT, i + f = c → f < m → (∀ q, q < c → ls_Z kd np i q → wT q = nI (t q)) → wX_levelStatements_68 post two (nI n) (nI nv) (nI na) (nI np) (nI (nv + na)) (nI (nv + na + 3 * np)) sl bo (nI c) pt iS fc rS cT aC tk m (nI i) od jo loB hiB ki fa fb bf ch bs ps pb pp wS wT sB tL ip me eS oC oL oV dC dT dK co cP cR sE eV := by
  obtain ⟨⟨hn, hnv, hna, hnp, hc, hN⟩, C, F, L, hk, hfa, hfb, hH, hjn, hbo, hdl⟩ := H
  have tb := sm_tb C F L T hs (fun i hi h14 => (hdl i hi h14).1)
  intro f
  induction f with
  | zero =>
    intro i m wT hf hm hI
    obtain ⟨m, rfl⟩ : ∃ e, m = e + 1 := ⟨m - 1, by omega⟩
    have e : i = c := by omega
    subst e
    refine br_t (nI_le (by omega) (by omega)) (hp wT (fun q hq => hI q hq ?_))
    rcases pg_par C.1 (Nat.le_of_lt hq) with z | ⟨j, m, z1, z2⟩
    · exact Or.inr (Or.inl z.2)
    · exact Or.inr (Or.inr ⟨j, m, z2, by have := z2.1; omega⟩)
  | succ f ih =>
    intro i m wT hf hm hI
    obtain ⟨m, rfl⟩ : ∃ e, m = e + 1 := ⟨m - 1, by omega⟩
    obtain ⟨k1, k2⟩ := hk i (by omega)
    have iv : vp_in (nI i) 64 := vp_in_nI (by omega) (by decide)
    have hii : wT i = nI (t i) := by
      refine hI i (by omega) ?_
      rcases Nat.lt_or_ge (kd i) 9 with w | w
      · rcases pg_up C (i := i) (by omega) (by omega) with z | ⟨j, m, z1, z2, _⟩
        · exact Or.inr (Or.inl z)
        · exact Or.inr (Or.inr ⟨j, m, z1, z2⟩)
      · exact Or.inl w
    refine br_f (nI_ge (by omega) (by omega)) ?_
    rw [nI_clamp (n := i) (by omega), k1]
    refine And.intro iv (nm_e ?_)
    -- what a finished step of token i must have written
    have fin : ∀ wT' : Nat → Int32, (∀ q, q < c → (∀ m, ¬ pg_ch kd np i m q) → ls_Z kd np i q → wT' q = nI (t q)) → (∀ q m, q < c → pg_ch kd np i m q → wT' q = nI (t q)) → ∀ q, q < c → ls_Z kd np (i + 1) q → wT' q = nI (t q) := by
      intro wT' w1 w2 q hq hz
      by_cases e : ∃ m, pg_ch kd np i m q
      · obtain ⟨m, e⟩ := e
        exact w2 q m hq e
      · refine w1 q hq (fun m w => e ⟨m, w⟩) ?_
        rcases hz with z | z | ⟨j, m, z1, z2⟩
        · exact Or.inl z
        · exact Or.inr (Or.inl z)
        · refine Or.inr (Or.inr ⟨j, m, z1, ?_⟩)
          have : j ≠ i := fun w => e ⟨m, w ▸ z1⟩
          omega
    have chm : ∀ q m, pg_ch kd np i m q → q < c → (m = 0 → q = i + 1) ∧ (m = 1 → q = pg_en kd c (i + 1)) ∧ (m = 2 → q = pg_en kd c (pg_en kd c (i + 1))) := by
      intro q m hch hq
      have hm := hch.2.2.1
      have q1 : ∀ p, p < c → pg_ch kd np i m p → q = p := by
        intro p hp hch'
        rcases Nat.lt_trichotomy q p with w | w | w
        · have := hch'.2.2.2 q hch.1 w; have := hch.2.1; have := hch'.2.1; omega
        · exact w
        · have := hch.2.2.2 p hch'.1 w; have := hch.2.1; have := hch'.2.1; omega
      refine ⟨fun e => ?_, fun e => ?_, fun e => ?_⟩
      · subst e
        obtain ⟨a1, a2⟩ := pg_c0 C.1 C.2.1 (i := i) (by omega) (by omega)
        exact q1 _ a1 a2
      · subst e
        obtain ⟨a1, a2⟩ := pg_c0 C.1 C.2.1 (i := i) (by omega) (by omega)
        obtain ⟨b1, b2, b3⟩ := pg_cS C.1 C.2.1 a1 a2 (by omega)
        exact q1 _ b1 b3
      · subst e
        obtain ⟨a1, a2⟩ := pg_c0 C.1 C.2.1 (i := i) (by omega) (by omega)
        obtain ⟨b1, b2, b3⟩ := pg_cS C.1 C.2.1 a1 a2 (by omega)
        obtain ⟨d1, d2, d3⟩ := pg_cS C.1 C.2.1 b1 b3 (by omega)
        exact q1 _ d1 d3
    by_cases h3 : kd i = 3
    · obtain ⟨c1, c2⟩ := xi_c0 hH C (by omega) (i := i) (by rw [h3]; decide)
      obtain ⟨c3, c4⟩ := xi_c1 hH C (by omega) (i := i) (by rw [h3]; decide)
      obtain ⟨a1, a2, a3, a4, a5, a6, a7, a8⟩ := pg_k3 C (i := i) (by omega) h3
      have t1 : t (i + 1) = t i := by
        have := ((T (i + 1) a1).2 a2).2 i 0 a7
        rw [this, if_neg (by omega)]
      have t2 : t (pg_en kd c (i + 1)) = t i := by
        have := ((T _ a4).2 a5).2 i 1 a8
        rw [this, if_neg (by omega)]
      rw [h3]
      refine br_t (by decide) ?_
      rw [bz_3, bz_31, nI_clamp (n := 3 * i) (by omega), nI_clamp (n := 3 * i + 1) (by omega), c1, c3, nI_clamp (n := i + 1) (by omega), nI_clamp (n := pg_en kd c (i + 1)) (by omega), hii]
      refine And.intro (vp_in_nI (by omega) (by decide)) (And.intro iv (And.intro (vp_in_nI (by omega) (by decide)) (nm_e ?_)))
      rw [pk_un (show i ≠ i + 1 by omega), hii]
      refine And.intro (vp_in_nI (by omega) (by decide)) (And.intro iv (And.intro (vp_in_nI (by omega) (by decide)) (nm_e (nm_r (nI_1 i) ?_))))
      refine ih (i + 1) m _ (by omega) (by omega) (fin _ (fun q hq hnc hz => ?_) (fun q mm hq hch => ?_))
      · exact bz_uk (fun e => by rw [e, t2]) (fun _ => bz_uk (fun e => by rw [e, t1]) (fun _ => hI q hq hz))
      · have hmm := hch.2.2.1
        rw [h3] at hmm
        have hm2 : mm < 2 := hmm
        obtain ⟨x0, x1, x2⟩ := chm q mm hch hq
        refine bz_uk (fun e => by rw [e, t2]) (fun e => bz_uk (fun e => by rw [e, t1]) (fun e' => ?_))
        rcases Nat.lt_or_ge mm 1 with w | w
        · exact absurd (x0 (by omega)) e'
        · exact absurd (x1 (by omega)) e
    · refine br_f (fun w => h3 ((nI_eq (b := 3) (by omega) (by decide)).mp w)) ?_
      have P : kd i = 4 ∨ kd i = 5 → wX_levelStatements_141 post (wX_levelStatements_68 post two (nI n) (nI nv) (nI na) (nI np) (nI (nv + na)) (nI (nv + na + 3 * np)) sl bo (nI c) pt iS fc rS cT aC tk m) two (nI i) (nI (kd i)) (nI n) (nI nv) (nI na) (nI np) (nI (nv + na)) (nI (nv + na + 3 * np)) sl bo (nI c) pt iS fc rS cT aC tk od jo loB hiB ki fa fb bf ch bs ps pb pp wS wT sB tL ip me eS oC oL oV dC dT dK co cP cR sE eV := by
        intro h45
        obtain ⟨a1, a2, a3, a4, a5, a6, a7, a8⟩ := pg_k5 C (i := i) (by omega) h45
        have ar2 : 1 < pg_ar (kd i) := by rcases h45 with w | w <;> rw [w] <;> decide
        obtain ⟨c1, c2⟩ := xi_c0 hH C (by omega) (i := i) (by omega)
        obtain ⟨c3, c4⟩ := xi_c1 hH C (by omega) (i := i) ar2
        have t2 : t (pg_en kd c (i + 1)) = J (t i) (t (i + 1)) := by
          have := ((T _ a4).2 a5).2 i 1 a7
          rw [this, if_pos h45]
        show vp_in (nI i) 64 ∧ _
        rw [bz_3, bz_31, bz_32, nI_clamp (n := i) (by omega), nI_clamp (n := 3 * i) (by omega), nI_clamp (n := 3 * i + 1) (by omega), nI_clamp (n := 3 * i + 2) (by omega), c1, c3, nI_clamp (n := i + 1) (by omega), nI_clamp (n := pg_en kd c (i + 1)) (by omega), hii, hI (i + 1) a1 (Or.inl a2)]
        refine And.intro iv (And.intro (vp_in_nI (by omega) (by decide)) (And.intro (vp_in_nI (by omega) (by decide)) ?_))
        refine xw_jn hjn hN (tb _ (by omega)) (tb _ a1) ?_ rfl rfl
        refine And.intro (vp_in_nI (by omega) (by decide)) (And.intro (vp_in_nI (by omega) (by decide)) (nm_e ?_))
        refine pk_eq (kd i) 4 (fun h4 => ?_) (fun h4 => nm_r (nI_1 i) ?_) rfl rfl (by omega) (by omega)
        · obtain ⟨c5, c6⟩ := xi_c2 hH C (by omega) (i := i) (by rw [h4]; decide)
          obtain ⟨d1, d2, d3, d4, d5⟩ := pg_k4 C (i := i) (by omega) h4
          have t3 : t (pg_en kd c (pg_en kd c (i + 1))) = J (t i) (t (i + 1)) := by
            have := ((T _ d2).2 d3).2 i 2 d4
            rw [this, if_pos h45]
          rw [c5, nI_clamp (n := pg_en kd c (pg_en kd c (i + 1))) (by omega)]
          refine And.intro (vp_in_nI (by omega) (by decide)) (And.intro (vp_in_nI (by omega) (by decide)) (nm_e (nm_r (nI_1 i) ?_)))
          refine ih (i + 1) m _ (by omega) (by omega) (fin _ (fun q hq hnc hz => ?_) (fun q mm hq hch => ?_))
          · exact bz_uk (fun e => by rw [e, t3]) (fun _ => bz_uk (fun e => by rw [e, t2]) (fun _ => hI q hq hz))
          · have hmm := hch.2.2.1
            rw [h4] at hmm
            have hm2 : mm < 3 := hmm
            obtain ⟨x0, x1, x2⟩ := chm q mm hch hq
            refine bz_uk (fun e => by rw [e, t3]) (fun e => bz_uk (fun e => by rw [e, t2]) (fun e' => ?_))
            rcases Nat.lt_or_ge mm 1 with w | w
            · have := x0 (by omega)
              rw [this]; exact hI _ a1 (Or.inl a2)
            · rcases Nat.lt_or_ge mm 2 with w2 | w2
              · exact absurd (x1 (by omega)) e'
              · exact absurd (x2 (by omega)) e
        · refine ih (i + 1) m _ (by omega) (by omega) (fin _ (fun q hq hnc hz => ?_) (fun q mm hq hch => ?_))
          · exact bz_uk (fun e => by rw [e, t2]) (fun _ => hI q hq hz)
          · have hmm := hch.2.2.1
            have h5 : kd i = 5 := by omega
            rw [h5] at hmm
            have hm2 : mm < 2 := hmm
            obtain ⟨x0, x1, x2⟩ := chm q mm hch hq
            refine bz_uk (fun e => by rw [e, t2]) (fun e' => ?_)
            rcases Nat.lt_or_ge mm 1 with w | w
            · have := x0 (by omega)
              rw [this]; exact hI _ a1 (Or.inl a2)
            · exact absurd (x1 (by omega)) e'
      refine pk_eq (kd i) 4 (fun h4 => P (Or.inl h4)) (fun h4 => ?_) rfl rfl (by omega) (by omega)
      refine pk_eq (kd i) 5 (fun h5 => P (Or.inr h5)) (fun h5 => nm_r (nI_1 i) ?_) rfl rfl (by omega) (by omega)
      refine ih (i + 1) m wT (by omega) (by omega) (fin _ (fun q hq hnc hz => hI q hq hz) (fun q mm hq hch => hI q hq (Or.inl ?_)))
      have := ((C.2.2 q hq).1 i mm hch)
      unfold pg_sc at this
      omega
end
end
section
/-! the component's rounds -/
section
variable {n nv na np c : Nat} {sl bo pt iS fc rS cT aC tk : Int32} {od jo loB hiB ki fa fb bf ch bs ps pb pp wS wT sB tL ip me eS oC oL oV dC dT dK co cP cR sE eV : Nat → Int32}
variable {kd fA fB dl : Nat → Nat} {N b : Nat} {J : Nat → Nat → Nat} {two : Int32}
theorem xw_ls2 (H : xi_H kd fA fB n nv na np c N J b dl two bo jo ki fa fb bf ch bs) {s t : Nat → Nat} (T : sm_T kd fA nv na np c J b dl s t) (hs : ∀ k, k < nv + na + 3 * np → s k < N) (hW : ws_is wS s (nv + na + 3 * np)) {post : SX → Prop}
    (hp : ∀ wT, (∀ q, q < c → wT q = nI (t q)) → post (nI n, nI nv, nI na, nI np, nI (nv + na), nI (nv + na + 3 * np), sl, bo, nI c, pt, iS, fc, rS, cT, aC, tk, od, jo, loB, hiB, ki, fa, fb, bf, ch, bs, ps, pb, pp, wS, wT, sB, tL, ip, me, eS, oC, oL, oV, dC, dT, dK, co, cP, cR, sE, eV)) :
    ∀ f k m wT, k + f = np → f < m → (∀ q, q < c → (9 ≤ kd q ∨ ∃ k', k' < k ∧ q = pg_st kd c k') → wT q = nI (t q)) → wX_levelStatements_2 post two (nI n) (nI nv) (nI na) (nI np) (nI (nv + na)) (nI (nv + na + 3 * np)) sl bo (nI c) pt iS fc rS cT aC tk m (nI k) od jo loB hiB ki fa fb bf ch bs ps pb pp wS wT sB tL ip me eS oC oL oV dC dT dK co cP cR sE eV := by
  have H' := H
  obtain ⟨⟨hn, hnv, hna, hnp, hc, hN⟩, C, F, L, hk, hfa, hfb, hH, hjn, hbo, hdl⟩ := H
  have root : ∀ k, k ≤ np → pg_st kd c k < c ∧ bs k = nI (pg_st kd c k) ∧ t (pg_st kd c k) = if k < np then s (nv + na + 3 * k) else b := by
    intro k hk'
    obtain ⟨r1, r2, r3⟩ := pg_st_lt C.1 C.2.1 hk'
    have rb := pg_bd_st C.1 hk' r1
    have g := hH.2.2 _ r1 r2
    rw [rb] at g
    refine ⟨r1, g, ?_⟩
    rw [((T _ r1).2 (pg_rt8 C r1 r2)).1 r2]
    unfold sm_bs
    rw [rb]
  intro f
  induction f with
  | zero =>
    intro k m wT hf hm hI
    obtain ⟨m, rfl⟩ : ∃ e, m = e + 1 := ⟨m - 1, by omega⟩
    have e : k = np := by omega
    subst e
    obtain ⟨r1, r2, r3⟩ := root k (Nat.le_refl _)
    rw [if_neg (by omega)] at r3
    refine br_t (nI_le (by omega) (by omega)) (And.intro (vp_in_nI (by omega) (by decide)) ?_)
    rw [nI_clamp (n := k) (by omega), r2, nI_clamp (n := pg_st kd c k) (by omega)]
    have go : ∀ x, x = nI b → wX_levelStatements_68 post two (nI n) (nI nv) (nI na) (nI k) (nI (nv + na)) (nI (nv + na + 3 * k)) sl bo (nI c) pt iS fc rS cT aC tk 65 0 od jo loB hiB ki fa fb bf ch bs ps pb pp wS (upd wT (pg_st kd c k) x) sB tL ip me eS oC oL oV dC dT dK co cP cR sE eV := by
      intro x ex
      refine xw_ls68 H' T hs hp c 0 65 _ (by omega) (by omega) (fun q hq hz => bz_uk (fun e => by rw [ex, e, r3]) (fun e => ?_))
      rcases hz with z | z | ⟨j, mm, z1, z2⟩
      · exact hI q hq (Or.inl z)
      · obtain ⟨s1, s2, s3⟩ := pg_rt_st C.1 hq z
        refine hI q hq (Or.inr ⟨pg_bd kd k q, ?_, s2.symm⟩)
        have : pg_bd kd k q ≠ k := fun w => e (by rw [← s2, w])
        omega
      · omega
    rcases hbo with ⟨b1, b2⟩ | ⟨b1, b2⟩
    · exact br_t b1 (And.intro (vp_in_nI (by omega) (by decide)) (nm_e ⟨65, go _ b2⟩))
    · exact br_f b1 (And.intro (vp_in_nI (by omega) (by decide)) (nm_e ⟨65, go _ (by rw [b2]; rfl)⟩))
  | succ f ih =>
    intro k m wT hf hm hI
    obtain ⟨m, rfl⟩ : ∃ e, m = e + 1 := ⟨m - 1, by omega⟩
    obtain ⟨r1, r2, r3⟩ := root k (by omega)
    rw [if_pos (by omega)] at r3
    refine br_f (nI_ge (by omega) (by omega)) ?_
    rw [bz_3, nI_add, nI_clamp (n := k) (by omega), nI_clamp (n := nv + na + 3 * k) (by omega), r2, nI_clamp (n := pg_st kd c k) (by omega), hW _ (by omega), nI_1]
    refine And.intro (vp_in_nI (by omega) (by decide)) (And.intro (vp_in_nI (by omega) (by decide)) (And.intro (vp_in_nI (by omega) (by decide)) (nm_e (nm_e ?_))))
    refine ih (k + 1) m _ (by omega) (by omega) (fun q hq hz => bz_uk (fun e => by rw [e, r3]) (fun e => hI q hq ?_))
    rcases hz with z | ⟨k', z1, z2⟩
    · exact Or.inl z
    · refine Or.inr ⟨k', ?_, z2⟩
      have : k' ≠ k := fun w => e (by rw [z2, w])
      omega
theorem xw_ls (H : xi_H kd fA fB n nv na np c N J b dl two bo jo ki fa fb bf ch bs) {s t : Nat → Nat} (T : sm_T kd fA nv na np c J b dl s t) (hs : ∀ k, k < nv + na + 3 * np → s k < N) (hW : ws_is wS s (nv + na + 3 * np)) (hI : ∀ q, q < c → 9 ≤ kd q → wT q = nI (t q)) {post : SX → Prop}
    (hp : ∀ wT, (∀ q, q < c → wT q = nI (t q)) → post (nI n, nI nv, nI na, nI np, nI (nv + na), nI (nv + na + 3 * np), sl, bo, nI c, pt, iS, fc, rS, cT, aC, tk, od, jo, loB, hiB, ki, fa, fb, bf, ch, bs, ps, pb, pp, wS, wT, sB, tL, ip, me, eS, oC, oL, oV, dC, dT, dK, co, cP, cR, sE, eV)) : wpX_levelStatements post (nI n, nI nv, nI na, nI np, nI (nv + na), nI (nv + na + 3 * np), sl, bo, nI c, pt, iS, fc, rS, cT, aC, tk, od, jo, loB, hiB, ki, fa, fb, bf, ch, bs, ps, pb, pp, wS, wT, sB, tL, ip, me, eS, oC, oL, oV, dC, dT, dK, co, cP, cR, sE, eV) two := by
  have hnp := H.1.2.2.2.1
  refine ⟨5, ?_⟩
  exact xw_ls2 H T hs hW hp np 0 5 wT (by omega) (by omega) (fun q hq hz => hI q hq (hz.elim id (fun w => by obtain ⟨k', w1, _⟩ := w; omega)))
theorem ws_rs {s : Nat → Nat} {k l j : Nat} (hW : ws_is wS s k) : ws_is (upd wS j (nI (J (s j) l))) (sm_rs J s j l) k := by
  intro i hi
  unfold sm_rs
  by_cases e : i = j
  · subst e; rw [pk_us, if_pos rfl]
  · rw [pk_un e, if_neg e]; exact hW i hi
theorem xw_raise (hjn : jn_X two jo N J) (hN : N ≤ 8) (hnv : nv ≤ 8) (hna : na ≤ 4) (hnp : np ≤ 3) {s : Nat → Nat} (hs : ∀ k, k < nv + na + 3 * np → s k < N) (hW : ws_is wS s (nv + na + 3 * np)) {k l : Nat} (hk : k < nv + na + 3 * np) (hl : l < N) {post : Int32 → SX → Prop}
    (h0 : J (s k) l = s k → post 0 (nI n, nI nv, nI na, nI np, nI (nv + na), nI (nv + na + 3 * np), sl, bo, nI c, pt, iS, fc, rS, cT, aC, tk, od, jo, loB, hiB, ki, fa, fb, bf, ch, bs, ps, pb, pp, wS, wT, sB, tL, ip, me, eS, oC, oL, oV, dC, dT, dK, co, cP, cR, sE, eV)) (h1 : ¬ J (s k) l = s k → post 1 (nI n, nI nv, nI na, nI np, nI (nv + na), nI (nv + na + 3 * np), sl, bo, nI c, pt, iS, fc, rS, cT, aC, tk, od, jo, loB, hiB, ki, fa, fb, bf, ch, bs, ps, pb, pp, upd wS k (nI (J (s k) l)), wT, sB, tL, ip, me, eS, oC, oL, oV, dC, dT, dK, co, cP, cR, sE, eV)) (L : J (s k) l < N) {x y : Int32} (hx : x = nI k) (hy : y = nI l) : wpX_raise post (nI n, nI nv, nI na, nI np, nI (nv + na), nI (nv + na + 3 * np), sl, bo, nI c, pt, iS, fc, rS, cT, aC, tk, od, jo, loB, hiB, ki, fa, fb, bf, ch, bs, ps, pb, pp, wS, wT, sB, tL, ip, me, eS, oC, oL, oV, dC, dT, dK, co, cP, cR, sE, eV) two x y := by
  subst hx hy
  have iv : vp_in (nI k) 32 := vp_in_nI (by omega) (by decide)
  refine And.intro iv ?_
  rw [nI_clamp (n := k) (by omega), hW k hk]
  have := hs k hk
  refine xw_jn hjn hN this hl ?_ rfl rfl
  refine And.intro iv ?_
  refine pk_eq (J (s k) l) (s k) (fun e => h0 e) (fun e => And.intro iv (nm_e (h1 e))) rfl rfl (by omega) (by omega)
/-- a raise as a step of a round: there is an outcome -/
theorem xw_rq (H : xi_H kd fA fB n nv na np c N J b dl two bo jo ki fa fb bf ch bs) {s0 sr s : Nat → Nat} {x : Int32} {D : Prop} (h0 : ∀ k, k < nv + na + 3 * np → s0 k < N) (hr : ∀ k, k < nv + na + 3 * np → sr k < N) (hQ : sm_Q kd fA fB nv na np c N J b dl s0 sr s x D) (hW : ws_is wS s (nv + na + 3 * np)) {k l : Nat} (hA : sm_A kd fA fB nv na np c N J b dl s0 k l) {post : Int32 → SX → Prop}
    (hp : ∀ r wS s', (r = 0 ∨ r = 1) → (r = 0 → s' = s) → sm_Q kd fA fB nv na np c N J b dl s0 sr s' (if r = 0 then x else 1) (D ∧ J l (sr k) = sr k) → ws_is wS s' (nv + na + 3 * np) → post r (nI n, nI nv, nI na, nI np, nI (nv + na), nI (nv + na + 3 * np), sl, bo, nI c, pt, iS, fc, rS, cT, aC, tk, od, jo, loB, hiB, ki, fa, fb, bf, ch, bs, ps, pb, pp, wS, wT, sB, tL, ip, me, eS, oC, oL, oV, dC, dT, dK, co, cP, cR, sE, eV)) {p q : Int32} (hpk : p = nI k) (hql : q = nI l) : wpX_raise post (nI n, nI nv, nI na, nI np, nI (nv + na), nI (nv + na + 3 * np), sl, bo, nI c, pt, iS, fc, rS, cT, aC, tk, od, jo, loB, hiB, ki, fa, fb, bf, ch, bs, ps, pb, pp, wS, wT, sB, tL, ip, me, eS, oC, oL, oV, dC, dT, dK, co, cP, cR, sE, eV) two p q := by
  obtain ⟨⟨hn, hnv, hna, hnp, hc, hN⟩, C, F, L, hk, hfa, hfb, hH, hjn, hbo, hdl⟩ := H
  refine xw_raise hjn hN hnv hna hnp hQ.1.1 hW hA.1 hA.2.1 (fun e => ?_) (fun e => ?_) (L.2.1 _ _ (hQ.1.1 _ hA.1) hA.2.1) hpk hql
  · exact hp 0 wS s (Or.inl rfl) (fun _ => rfl) (by rw [if_pos rfl]; exact sm_Qn L hQ hA e) hW
  · exact hp 1 _ _ (Or.inr rfl) (fun w => absurd w (by decide)) (by rw [if_neg (by decide)]; exact sm_Qy L _ h0 hr hQ hA e) (ws_rs hW)
theorem sm_Q1 {s0 sr s : Nat → Nat} {D E : Prop} (h : sm_Q kd fA fB nv na np c N J b dl s0 sr s 1 D) : sm_Q kd fA fB nv na np c N J b dl s0 sr s 1 E :=
  ⟨h.1, h.2.1, h.2.2.elim (fun w => absurd w.1 (by decide)) (fun w => Or.inr w)⟩
theorem xi_bo {r : Int32} (h : r = 0 ∨ r = 1) : narrow .boolean (.int r) = .int r := by
  rcases h with rfl | rfl
  · exact bz_n0
  · exact bz_n1
theorem xw_at (H : xi_H kd fA fB n nv na np c N J b dl two bo jo ki fa fb bf ch bs) {s0 sr s t : Nat → Nat} (T : sm_T kd fA nv na np c J b dl sr t) (h0 : ∀ k, k < nv + na + 3 * np → s0 k < N) (hIr : sm_I kd fA fB nv na np c N J b dl s0 sr) (hI : sm_I kd fA fB nv na np c N J b dl s0 s) (hW : ws_is wS s (nv + na + 3 * np)) (hT : ∀ q, q < c → wT q = nI (t q)) {i : Nat} (hi : i < c) (hki : kd i = 1 ∨ kd i = 2 ∨ kd i = 6 ∨ kd i = 7) {post : Int32 → SX → Prop}
    (hp : ∀ r wS s', (r = 0 ∨ r = 1) → sm_Q kd fA fB nv na np c N J b dl s0 s s' r (sm_c kd fA fB nv na np c J s t i) → ws_is wS s' (nv + na + 3 * np) → post r (nI n, nI nv, nI na, nI np, nI (nv + na), nI (nv + na + 3 * np), sl, bo, nI c, pt, iS, fc, rS, cT, aC, tk, od, jo, loB, hiB, ki, fa, fb, bf, ch, bs, ps, pb, pp, wS, wT, sB, tL, ip, me, eS, oC, oL, oV, dC, dT, dK, co, cP, cR, sE, eV)) : wpX_applyToken post (nI n, nI nv, nI na, nI np, nI (nv + na), nI (nv + na + 3 * np), sl, bo, nI c, pt, iS, fc, rS, cT, aC, tk, od, jo, loB, hiB, ki, fa, fb, bf, ch, bs, ps, pb, pp, wS, wT, sB, tL, ip, me, eS, oC, oL, oV, dC, dT, dK, co, cP, cR, sE, eV) two (nI i) := by
  have H' := H
  obtain ⟨⟨hn, hnv, hna, hnp, hc, hN⟩, C, F, L, hk, hfa, hfb, hH, hjn, hbo, hdl⟩ := H
  have hd : ∀ i, i < c → kd i = 14 → dl i < N := fun i hi h14 => (hdl i hi h14).1
  have tb := sm_tb C F L T hIr.1 hd
  obtain ⟨k1, k2⟩ := hk i hi
  obtain ⟨f1, f2, f3, f4, f5, f6, f7⟩ := F i hi
  obtain ⟨A1, A2, A7, A6⟩ := sm_ad C F L hd hIr T hi
  have iv : vp_in (nI i) 64 := vp_in_nI (by omega) (by decide)
  have gfa := hfa i hi (by omega)
  obtain ⟨c1, c2⟩ := xi_c0 hH C hi (by rcases hki with w | w | w | w <;> rw [w] <;> decide)
  have Q0 := sm_Q0 L hI
  refine And.intro iv ?_
  rw [nI_clamp (n := i) (by omega), k1, hT i hi, bz_3, nI_clamp (n := 3 * i) (by omega), c1, nI_clamp (n := i + 1) (by omega), hT (i + 1) c2]
  refine nm_e (And.intro iv (nm_e (And.intro (vp_in_nI (by omega) (by decide)) (And.intro (vp_in_nI (by omega) (by decide)) ?_))))
  refine xw_jn hjn hN (tb _ c2) (tb _ hi) ?_ rfl rfl
  rcases hki with z | z | z | z
  · rw [z]
    refine br_t (by decide) (And.intro iv ?_)
    refine xw_rq H' h0 hI.1 Q0 hW (A1 z) (fun r wS s' hr _ hQ hW' => ⟨xi_bo hr, hp r wS s' hr ?_ hW'⟩) gfa rfl
    rw [show (if r = 0 then (0 : Int32) else 1) = r from by rcases hr with rfl | rfl <;> rfl] at hQ
    exact sm_Qc hQ (fun _ w => ⟨fun _ => w.2, fun e => by omega, fun e => by omega, fun e => by omega⟩)
  · obtain ⟨c3, c4⟩ := xi_c1 hH C hi (by rw [z]; decide)
    rw [z]
    refine br_f (by decide) (br_t (by decide) ?_)
    rw [bz_31, nI_clamp (n := 3 * i + 1) (by omega), c3, nI_clamp (n := pg_en kd c (i + 1)) (by omega), hT _ c4]
    refine And.intro (vp_in_nI (by omega) (by decide)) (And.intro (vp_in_nI (by omega) (by decide)) ?_)
    refine xw_jn hjn hN (L.2.1 _ _ (tb _ c2) (tb _ hi)) (tb _ c4) ?_ rfl rfl
    refine And.intro iv ?_
    refine xw_rq H' h0 hI.1 Q0 hW (A2 z) (fun r wS s' hr _ hQ hW' => ⟨xi_bo hr, hp r wS s' hr ?_ hW'⟩) (by rw [gfa, nI_add]) rfl
    rw [show (if r = 0 then (0 : Int32) else 1) = r from by rcases hr with rfl | rfl <;> rfl] at hQ
    exact sm_Qc hQ (fun _ w => ⟨fun e => by omega, fun _ => w.2, fun e => by omega, fun e => by omega⟩)
  · obtain ⟨B0, B1, B2⟩ := A6 z
    have gfb := hfb i hi
    have f41 := (f4 z).1
    rw [z]
    refine br_f (by decide) (br_f (by decide) (br_f (by decide) (And.intro iv ?_)))
    refine nm_r (e' := nI (nv + na + 3 * fA i)) (by rw [gfa, bz_3, nI_add]) ?_
    refine xw_rq H' h0 hI.1 Q0 hW B0 (fun r1 wS s1 hr1 es1 hQ1 hW1 => ?_) rfl rfl
    refine xw_rq H' h0 hI.1 hQ1 hW1 B1 (fun r2 wS s2 hr2 es2 hQ2 hW2 => ?_) (nI_1 _) rfl
    have e2 : nI (nv + na + 3 * fA i) + 2 = nI (nv + na + 3 * fA i + 2) := by rw [show (2 : Int32) = nI 2 from rfl, nI_add]
    show vp_in (nI (nv + na + 3 * fA i) + 2) 32 ∧ _
    rw [e2, nI_clamp (n := nv + na + 3 * fA i + 2) (by omega), hW2 _ (by omega)]
    refine And.intro (vp_in_nI (by omega) (by decide)) ?_
    refine xw_jn hjn hN (hQ2.1.1 _ (by omega)) (tb _ hi) ?_ rfl rfl
    refine And.intro iv ?_
    refine xw_rq H' h0 hI.1 hQ2 hW2 (B2 s2 hQ2.1) (fun r3 wS s3 hr3 es3 hQ3 hW3 => ?_) gfb rfl
    have fin : ∀ r : Int32, (r = 0 ∨ r = 1) → (if r3 = 0 then (if r2 = 0 then (if r1 = 0 then (0 : Int32) else 1) else 1) else 1) = r → post r (nI n, nI nv, nI na, nI np, nI (nv + na), nI (nv + na + 3 * np), sl, bo, nI c, pt, iS, fc, rS, cT, aC, tk, od, jo, loB, hiB, ki, fa, fb, bf, ch, bs, ps, pb, pp, wS, wT, sB, tL, ip, me, eS, oC, oL, oV, dC, dT, dK, co, cP, cR, sE, eV) := by
      intro r hr er
      refine hp r wS s3 hr ?_ hW3
      rw [er] at hQ3
      rcases hr with rfl | rfl
      · have z1 : r1 = 0 := by rcases hr1 with w | w; exact w; rw [w] at er; rcases hr2 with w2 | w2 <;> rcases hr3 with w3 | w3 <;> rw [w2, w3] at er <;> exact absurd er (by decide)
        have z2 : r2 = 0 := by rcases hr2 with w | w; exact w; rw [z1, w] at er; rcases hr3 with w3 | w3 <;> rw [w3] at er <;> exact absurd er (by decide)
        have e2' : s2 = s := by rw [es2 z2, es1 z1]
        refine sm_Qc hQ3 (fun es w => ⟨fun e => by omega, fun e => by omega, fun e => by omega, fun _ => ⟨w.1.1.2, w.1.2, ?_⟩⟩)
        have w2 := w.2
        rw [e2'] at w2
        exact w2
      · exact sm_Q1 hQ3
    show ((r1 = 0 → _) ∧ (¬ r1 = 0 → _))
    rcases hr1 with rfl | rfl
    · refine br_t rfl ?_
      rcases hr2 with rfl | rfl
      · refine br_t rfl ?_
        rcases hr3 with rfl | rfl
        · exact br_t rfl (fin 0 (Or.inl rfl) rfl)
        · exact br_f (by decide) (fin 1 (Or.inr rfl) rfl)
      · refine br_f (by decide) (fin 1 (Or.inr rfl) ?_)
        rcases hr3 with rfl | rfl <;> rfl
    · refine br_f (by decide) (fin 1 (Or.inr rfl) ?_)
      rcases hr2 with rfl | rfl <;> rcases hr3 with rfl | rfl <;> rfl
  · have g := hH.1 i hi
    rw [z]
    refine br_f (by decide) (br_f (by decide) (br_t (by decide) (And.intro iv ?_)))
    refine xw_rq H' h0 hI.1 Q0 hW (A7 z) (fun r wS s' hr _ hQ hW' => ⟨xi_bo hr, hp r wS s' hr ?_ hW'⟩) (by rw [g, bz_3, nI_add, show (2 : Int32) = nI 2 from rfl, nI_add]) rfl
    rw [show (if r = 0 then (0 : Int32) else 1) = r from by rcases hr with rfl | rfl <;> rfl] at hQ
    exact sm_Qc hQ (fun _ w => ⟨fun e => by omega, fun e => by omega, fun _ => w.2, fun e => by omega⟩)
end
section
variable {n nv na np c : Nat} {sl bo pt iS fc rS cT aC tk : Int32} {od jo loB hiB ki fa fb bf ch bs ps pb pp wS wT sB tL ip me eS oC oL oV dC dT dK co cP cR sE eV : Nat → Int32}
variable {kd fA fB dl : Nat → Nat} {N b : Nat} {J : Nat → Nat → Nat} {two : Int32}
theorem sm_cc (C : pg_C kd np c) {s t t' : Nat → Nat} (h : ∀ i, i < c → t i = t' i) {i : Nat} (hi : i < c) (hc : sm_c kd fA fB nv na np c J s t i) : sm_c kd fA fB nv na np c J s t' i := by
  obtain ⟨h1, h2, h7, h6⟩ := hc
  refine ⟨fun k => ?_, fun k => ?_, fun k => ?_, fun k => ?_⟩
  · obtain ⟨a1, a2, a3⟩ := pg_k1 C hi (by omega)
    rw [← h i hi, ← h _ a1]; exact h1 k
  · obtain ⟨a1, a2, a3, a4, a5, a6⟩ := pg_k2 C hi (by omega)
    rw [← h i hi, ← h _ a1, ← h _ a4]; exact h2 k
  · obtain ⟨a1, a2, a3⟩ := pg_k1 C hi (by omega)
    rw [← h i hi, ← h _ a1]; exact h7 k
  · obtain ⟨a1, a2, a3⟩ := pg_k1 C hi (by omega)
    rw [← h i hi, ← h _ a1]; exact h6 k
theorem xw_af4 (H : xi_H kd fA fB n nv na np c N J b dl two bo jo ki fa fb bf ch bs) {s0 sr t : Nat → Nat} (T : sm_T kd fA nv na np c J b dl sr t) (h0 : ∀ k, k < nv + na + 3 * np → s0 k < N) (hIr : sm_I kd fA fB nv na np c N J b dl s0 sr) (hT : ∀ q, q < c → wT q = nI (t q)) {post : Int32 → SX → Prop}
    (hp : ∀ x wS s', sm_Q kd fA fB nv na np c N J b dl s0 sr s' x (∀ j, j < c → sm_c kd fA fB nv na np c J sr t j) → ws_is wS s' (nv + na + 3 * np) → post x (nI n, nI nv, nI na, nI np, nI (nv + na), nI (nv + na + 3 * np), sl, bo, nI c, pt, iS, fc, rS, cT, aC, tk, od, jo, loB, hiB, ki, fa, fb, bf, ch, bs, ps, pb, pp, wS, wT, sB, tL, ip, me, eS, oC, oL, oV, dC, dT, dK, co, cP, cR, sE, eV)) :
    ∀ f i m x wS s, i + f = c → f < m → sm_Q kd fA fB nv na np c N J b dl s0 sr s x (∀ j, j < i → sm_c kd fA fB nv na np c J sr t j) → ws_is wS s (nv + na + 3 * np) → wX_applyFlows_4 post two m x (nI i) (nI n) (nI nv) (nI na) (nI np) (nI (nv + na)) (nI (nv + na + 3 * np)) sl bo (nI c) pt iS fc rS cT aC tk od jo loB hiB ki fa fb bf ch bs ps pb pp wS wT sB tL ip me eS oC oL oV dC dT dK co cP cR sE eV := by
  have H' := H
  obtain ⟨⟨hn, hnv, hna, hnp, hc, hN⟩, C, F, L, hk, hfa, hfb, hH, hjn, hbo, hdl⟩ := H
  intro f
  induction f with
  | zero =>
    intro i m x wS s hf hm hQ hW
    obtain ⟨m, rfl⟩ : ∃ e, m = e + 1 := ⟨m - 1, by omega⟩
    have e : i = c := by omega
    subst e
    refine br_t (nI_le (by omega) (by omega)) (And.intro (xi_bo ?_) (hp x wS s hQ hW))
    exact hQ.2.2.elim (fun w => Or.inl w.1) (fun w => Or.inr w.1)
  | succ f ih =>
    intro i m x wS s hf hm hQ hW
    obtain ⟨m, rfl⟩ : ∃ e, m = e + 1 := ⟨m - 1, by omega⟩
    obtain ⟨k1, k2⟩ := hk i (by omega)
    refine br_f (nI_ge (by omega) (by omega)) ?_
    rw [nI_clamp (n := i) (by omega), k1]
    refine And.intro (vp_in_nI (by omega) (by decide)) (nm_e ?_)
    have P : (kd i = 1 ∨ kd i = 2 ∨ kd i = 6 ∨ kd i = 7) → wX_applyFlows_46 post (wX_applyFlows_4 post two m) two x (nI i) (nI n) (nI nv) (nI na) (nI np) (nI (nv + na)) (nI (nv + na + 3 * np)) sl bo (nI c) pt iS fc rS cT aC tk od jo loB hiB ki fa fb bf ch bs ps pb pp wS wT sB tL ip me eS oC oL oV dC dT dK co cP cR sE eV := by
      intro hki
      refine xw_at H' T h0 hIr hQ.1 hW hT (by omega) hki (fun r wS s' hr hQ' hW' => ?_)
      have q := sm_Qq L hIr.1 hQ hQ'
      have q2 : sm_Q kd fA fB nv na np c N J b dl s0 sr s' (if r = 0 then x else 1) (∀ j, j < i + 1 → sm_c kd fA fB nv na np c J sr t j) := sm_Qc q (fun _ w => lt_s w.1 (w.2.2 ▸ w.2.1))
      rcases hr with rfl | rfl
      · exact br_t rfl (nm_r (nI_1 i) (ih (i + 1) m x wS s' (by omega) (by omega) q2 hW'))
      · exact br_f (by decide) (nm_r (nI_1 i) (ih (i + 1) m 1 wS s' (by omega) (by omega) q2 hW'))
    refine pk_eq (kd i) 1 (fun e => P (by omega)) (fun e1 => ?_) rfl rfl (by omega) (by omega)
    refine pk_eq (kd i) 2 (fun e => P (by omega)) (fun e2 => ?_) rfl rfl (by omega) (by omega)
    refine pk_eq (kd i) 6 (fun e => P (by omega)) (fun e6 => ?_) rfl rfl (by omega) (by omega)
    refine pk_eq (kd i) 7 (fun e => P (by omega)) (fun e7 => nm_r (nI_1 i) ?_) rfl rfl (by omega) (by omega)
    exact ih (i + 1) m x wS s (by omega) (by omega) (sm_Qc hQ (fun _ w => lt_s w ⟨fun e => absurd e e1, fun e => absurd e e2, fun e => absurd e e7, fun e => absurd e e6⟩)) hW
/-- the rounds end with the least closed map, and the token levels belong to it -/
theorem xw_so4 (H : xi_H kd fA fB n nv na np c N J b dl two bo jo ki fa fb bf ch bs) {s0 : Nat → Nat} (h0 : ∀ k, k < nv + na + 3 * np → s0 k < N) {post : SX → Prop}
    (hp : ∀ wS wT s t, sm_W kd fA fB nv na np c N J b dl s0 s → sm_T kd fA nv na np c J b dl s t → ws_is wS s (nv + na + 3 * np) → (∀ q, q < c → wT q = nI (t q)) → post (nI n, nI nv, nI na, nI np, nI (nv + na), nI (nv + na + 3 * np), sl, bo, nI c, pt, iS, fc, rS, cT, aC, tk, od, jo, loB, hiB, ki, fa, fb, bf, ch, bs, ps, pb, pp, wS, wT, sB, tL, ip, me, eS, oC, oL, oV, dC, dT, dK, co, cP, cR, sE, eV)) :
    ∀ f i m x wS wT s, i + f = 256 → f < m → sm_I kd fA fB nv na np c N J b dl s0 s → ws_is wS s (nv + na + 3 * np) → 
      ((x = 0 ∧ i ≤ 169 ∧ ∃ t, sm_W kd fA fB nv na np c N J b dl s0 s ∧ sm_T kd fA nv na np c J b dl s t ∧ (∀ q, q < c → wT q = nI (t q))) ∨ (x = 1 ∧ i ≤ sm_M N J s (nv + na + 3 * np))) → wX_solve_4 post two m x (nI i) (nI n) (nI nv) (nI na) (nI np) (nI (nv + na)) (nI (nv + na + 3 * np)) sl bo (nI c) pt iS fc rS cT aC tk od jo loB hiB ki fa fb bf ch bs ps pb pp wS wT sB tL ip me eS oC oL oV dC dT dK co cP cR sE eV := by
  have H' := H
  obtain ⟨⟨hn, hnv, hna, hnp, hc, hN⟩, C, F, L, hk, hfa, hfb, hH, hjn, hbo, hdl⟩ := H
  have hd : ∀ i, i < c → kd i = 14 → dl i < N := fun i hi h14 => (hdl i hi h14).1
  have mle : ∀ s, sm_M N J s (nv + na + 3 * np) ≤ 168 := by
    intro s
    have a := sm_Mle (N := N) (J := J) s (nv + na + 3 * np)
    have b1 : (nv + na + 3 * np) * N ≤ 21 * 8 := Nat.mul_le_mul (by omega) hN
    omega
  intro f
  induction f with
  | zero =>
    intro i m x wS wT s hf hm hI hW hx
    have := mle s
    rcases hx with ⟨_, h, _⟩ | ⟨_, h⟩ <;> omega
  | succ f ih =>
    intro i m x wS wT s hf hm hI hW hx
    have := mle s
    have hi : i < 256 := by omega
    obtain ⟨m, rfl⟩ : ∃ e, m = e + 1 := ⟨m - 1, by omega⟩
    refine br_f (nI_ge (b := 256) (by omega) (by decide)) ?_
    rcases hx with ⟨rfl, hi9, t, w1, w2, w3⟩ | ⟨rfl, hM⟩
    · exact br_t rfl (hp wS wT s t w1 w2 hW w3)
    · refine br_f (by decide) ?_
      obtain ⟨t, T⟩ := sm_ex (fA := fA) (nv := nv) (na := na) (J := J) (b := b) (dl := dl) C s
      refine xw_le H' T hI.1 hW (fun wT hE => ?_)
      refine xw_ls H' T hI.1 hW hE (fun wT hT => ?_)
      refine ⟨65, ?_⟩
      refine xw_af4 H' T h0 hI hT (fun x wS s' hQ hW' => ?_) c 0 65 0 wS s (by omega) (by omega) (sm_Qc (sm_Q0 L hI) (fun _ _ => lt_0)) hW
      refine nm_r (nI_1 i) ?_
      rcases hQ.2.2 with ⟨rfl, es, cc⟩ | ⟨rfl, lt⟩
      · subst es
        refine ih (i + 1) m 0 wS wT s' (by omega) (by omega) hQ.1 hW' (Or.inl ⟨rfl, by omega, t, ⟨hQ.1, fun t' T' j hj => ?_⟩, T, hT⟩)
        exact sm_cc C (sm_tu C F L T T' hI.1 hd) hj (cc j hj)
      · exact ih (i + 1) m 1 wS wT s' (by omega) (by omega) hQ.1 hW' (Or.inr ⟨rfl, by omega⟩)
theorem xw_solve (H : xi_H kd fA fB n nv na np c N J b dl two bo jo ki fa fb bf ch bs) {s0 : Nat → Nat} (h0 : ∀ k, k < nv + na + 3 * np → s0 k < N) (hW : ws_is wS s0 (nv + na + 3 * np)) {post : SX → Prop}
    (hp : ∀ wS wT s t, sm_W kd fA fB nv na np c N J b dl s0 s → sm_T kd fA nv na np c J b dl s t → ws_is wS s (nv + na + 3 * np) → (∀ q, q < c → wT q = nI (t q)) → post (nI n, nI nv, nI na, nI np, nI (nv + na), nI (nv + na + 3 * np), sl, bo, nI c, pt, iS, fc, rS, cT, aC, tk, od, jo, loB, hiB, ki, fa, fb, bf, ch, bs, ps, pb, pp, wS, wT, sB, tL, ip, me, eS, oC, oL, oV, dC, dT, dK, co, cP, cR, sE, eV)) : wpX_solve post (nI n, nI nv, nI na, nI np, nI (nv + na), nI (nv + na + 3 * np), sl, bo, nI c, pt, iS, fc, rS, cT, aC, tk, od, jo, loB, hiB, ki, fa, fb, bf, ch, bs, ps, pb, pp, wS, wT, sB, tL, ip, me, eS, oC, oL, oV, dC, dT, dK, co, cP, cR, sE, eV) two :=
  ⟨257, xw_so4 H h0 hp 256 0 257 1 wS wT s0 (by omega) (by omega) (sm_I0 H.2.2.2.1 h0) hW (Or.inr ⟨rfl, Nat.zero_le _⟩)⟩
end
end
section
/-! the reference's levels -/
def jn_Y (od : Nat → Int32) (n N : Nat) (J : Nat → Nat → Nat) (base : Nat) : Prop := (base = 32 ∧ ∀ x y, x < N → y < N → nI x ||| nI y = nI (J x y)) ∨ (base = 0 ∧ N = n ∧ od_P od n ∧ ∀ x y, x < n → y < n → od_J od n x y (J x y) ∧ J x y < n)
def yi_H (kd fA fB : Nat → Nat) (n nv na np c N : Nat) (J : Nat → Nat → Nat) (b : Nat) (dl : Nat → Nat) (base : Nat) (bo : Int32) (od ki fa fb : Nat → Int32) : Prop :=
  (n ≤ 8 ∧ nv ≤ 8 ∧ na ≤ 4 ∧ np ≤ 3 ∧ c ≤ 64 ∧ N ≤ 8 ∧ 1 ≤ nv) ∧ pg_C kd np c ∧ sm_F kd fA fB n nv na np c ∧ sm_L N J b ∧ zz_k ki kd c ∧ (∀ i, i < c → ¬ kd i = 9 → fa i = nI (fA i)) ∧ (∀ i, i < c → fb i = nI (fB i)) ∧
  jn_Y od n N J base ∧ ((base = 32 ∧ b = 0) ∨ (base = 0 ∧ bo = nI b)) ∧ (∀ i, i < c → kd i = 14 → dl i < N ∧ ((base = 32 ∧ dl i = 0) ∨ (base = 0 ∧ fa i = nI (dl i))))
def yl_is (yL : Nat → Int32) (base : Nat) (s : Nat → Nat) (k : Nat) : Prop := ∀ j, j < k → yL (base + j) = nI (s j)
section
variable {n nv na np c : Nat} {sl iS rS yC yF bo yD yA yT : Int32} {od yB yL yE ki fa fb yV eS oC dC yK cP cR oL oV dT dK : Nat → Int32}
variable {kd fA fB dl : Nat → Nat} {N b base : Nat} {J : Nat → Nat → Nat}
theorem yw_lub (H : jn_Y od n N J base) (hn : n ≤ 8) {x y : Nat} (hx : x < N) (hy : y < N) {post : Int32 → Prop} (h : post (nI (J x y))) : wpY_lub post (nI n, nI nv, nI na, nI np, nI (nv + na), nI (nv + na + 3 * np), sl, iS, rS, yC, yF, bo, nI c, yD, yA, yT, od, yB, yL, yE, ki, fa, fb, yV, eS, oC, dC, yK, cP, cR, oL, oV, dT, dK) (nI x) (nI y) (nI base) := by
  rcases H with ⟨h1, h2⟩ | ⟨h1, h2, P, h3⟩
  · subst h1
    refine br_t rfl ?_
    rw [h2 x y hx hy]; exact h
  · subst h1; subst h2
    refine br_f (by decide) ?_
    refine yw_join hn hx hy (fun q hq hJ _ => ?_) (fun w => absurd (h3 x y hx hy).1 (w _ (h3 x y hx hy).2))
    rw [od_Ju P hq (h3 x y hx hy).2 hJ (h3 x y hx hy).1]; exact h
/-- the skipped tokens -/
theorem yw_skip {e bdy r h : Nat} (he : e ≤ 64) (hh : h ≤ e) {post : Int32 → Prop} : ∀ k m j, j + k = h → wY_exprLevel_35 post (nI base) (nI e) (nI bdy) (nI n) (nI nv) (nI na) (nI np) (nI (nv + na)) (nI (nv + na + 3 * np)) sl iS rS yC yF bo (nI c) yD yA yT od yB yL yE ki fa fb yV eS oC dC yK cP cR oL oV dT dK m (nI r) (nI h) (nI h) → wY_exprLevel_35 post (nI base) (nI e) (nI bdy) (nI n) (nI nv) (nI na) (nI np) (nI (nv + na)) (nI (nv + na + 3 * np)) sl iS rS yC yF bo (nI c) yD yA yT od yB yL yE ki fa fb yV eS oC dC yK cP cR oL oV dT dK (m + k) (nI r) (nI h) (nI j) := by
  intro k
  induction k with
  | zero =>
    intro m j hj w
    have : j = h := by omega
    subst this
    exact w
  | succ k ih =>
    intro m j hj w
    have w2 := ih m (j + 1) (by omega) w
    refine br_f (nI_ge (by omega) (by omega)) (br_f (nI_ge (by omega) (by omega)) ?_)
    refine br_f (by decide) (br_f (by decide) (br_f (by decide) (br_f (by decide) ?_)))
    exact nm_r (nI_1 j) w2
theorem yw_ex (H : yi_H kd fA fB n nv na np c N J b dl base bo od ki fa fb) {s t : Nat → Nat} (T : sm_T kd fA nv na np c J b dl s t) (hs : ∀ k, k < nv + na + 3 * np → s k < N) (hW : yl_is yL base s (nv + na + 3 * np)) {post : Int32 → Prop} {e bdy : Nat} (he : e ≤ c) :
    ∀ j, j < c → 9 ≤ kd j → pg_en kd c j ≤ e → pg_bd kd np j = bdy → ∀ m r h, r < N → h ≤ j → (∀ h', h' ≤ pg_en kd c j → wY_exprLevel_35 post (nI base) (nI e) (nI bdy) (nI n) (nI nv) (nI na) (nI np) (nI (nv + na)) (nI (nv + na + 3 * np)) sl iS rS yC yF bo (nI c) yD yA yT od yB yL yE ki fa fb yV eS oC dC yK cP cR oL oV dT dK m (nI (J r (t j))) (nI h') (nI (pg_en kd c j))) →
      wY_exprLevel_35 post (nI base) (nI e) (nI bdy) (nI n) (nI nv) (nI na) (nI np) (nI (nv + na)) (nI (nv + na + 3 * np)) sl iS rS yC yF bo (nI c) yD yA yT od yB yL yE ki fa fb yV eS oC dC yK cP cR oL oV dT dK (m + (pg_en kd c j - j)) (nI r) (nI h) (nI j) := by
  have H' := H
  obtain ⟨⟨hn, hnv, hna, hnp, hc, hN, hv1⟩, C, F, L, hk, hfa, hfb, hjn, hbo, hdl⟩ := H
  have tb := sm_tb C F L T hs (fun i hi h14 => (hdl i hi h14).1)
  have hb32 : base ≤ 32 := by rcases hjn with ⟨w, _⟩ | ⟨w, _⟩ <;> omega
  refine pg_ie ?_
  intro j hj h9 ih hen hbd m r h hr hh K
  obtain ⟨k1, k2⟩ := hk j hj
  obtain ⟨e1, e2, e3, e4, e5, e6⟩ := (T j hj).1 h9
  obtain ⟨f1, f2, f3, f4, f5, f6, f7⟩ := F j hj
  obtain ⟨en1, en2⟩ := pg_enlt C hj
  have iv : vp_in (nI j) 64 := vp_in_nI (by omega) (by decide)
  have ej : (nI j).toNatClampNeg = j := nI_clamp (by omega)
  have ass : ∀ x y, x < N → y < N → J (J r x) y = J r (J x y) := fun x y hx hy => L.2.2.2.2.1 _ _ _ hr hx hy
  -- the step at a visible token
  have ST : ∀ m, wY_exprLevel_60 post (wY_exprLevel_35 post (nI base) (nI e) (nI bdy) (nI n) (nI nv) (nI na) (nI np) (nI (nv + na)) (nI (nv + na + 3 * np)) sl iS rS yC yF bo (nI c) yD yA yT od yB yL yE ki fa fb yV eS oC dC yK cP cR oL oV dT dK m) (nI base) (nI r) (nI h) (nI e) (nI bdy) (nI j) (nI (kd j)) (nI n) (nI nv) (nI na) (nI np) (nI (nv + na)) (nI (nv + na + 3 * np)) sl iS rS yC yF bo (nI c) yD yA yT od yB yL yE ki fa fb yV eS oC dC yK cP cR oL oV dT dK → wY_exprLevel_35 post (nI base) (nI e) (nI bdy) (nI n) (nI nv) (nI na) (nI np) (nI (nv + na)) (nI (nv + na + 3 * np)) sl iS rS yC yF bo (nI c) yD yA yT od yB yL yE ki fa fb yV eS oC dC yK cP cR oL oV dT dK (m + 1) (nI r) (nI h) (nI j) := by
    intro m w
    refine br_f (nI_ge (by omega) (by omega)) (br_t (nI_le hh (by omega)) (And.intro iv ?_))
    rw [ej, k1]; exact w
  have hkk : kd j = 9 ∨ kd j = 10 ∨ kd j = 11 ∨ kd j = 12 ∨ kd j = 13 ∨ kd j = 14 := by omega
  rcases hkk with z | z | z | z | z | z
  · have q := pg_k0 C hj (by omega)
    rw [q] at K ⊢
    rw [show m + (j + 1 - j) = m + 1 by omega]
    refine ST m ?_
    rw [z]
    refine br_f (by decide) (br_f (by decide) (br_f (by decide) (br_f (by decide) (nm_r (nI_1 j) ?_))))
    have := K h (by omega)
    rw [e1 z, L.2.2.2.1 _ _ hr L.1, L.2.2.2.2.2 _ hr] at this
    exact this
  · have q := pg_k0 C hj (by omega)
    have g := hfa j hj (by omega)
    have fv := f2 (Or.inr z)
    rw [q] at K ⊢
    rw [show m + (j + 1 - j) = m + 1 by omega]
    refine ST m ?_
    rw [z]
    refine br_t (by decide) ?_
    rw [ej, g, nI_add, nI_clamp (n := base + fA j) (by omega), hW _ (by omega)]
    refine And.intro iv (And.intro (vp_in_nI (by omega) (by decide)) ?_)
    refine yw_lub hjn hn hr (hs _ (by omega)) ?_
    refine br_f (by decide) (br_f (by decide) (br_f (by decide) (nm_r (nI_1 j) ?_)))
    have := K h (by omega)
    rw [e2 z] at this
    exact this
  · obtain ⟨a1, a2, a3⟩ := pg_k1 C hj (by omega)
    have hch := pg_ch_ec (pg_c0 C.1 C.2.1 hj (by rw [z]; decide)).2
    obtain ⟨en3, en4⟩ := pg_enlt C a1
    have g := hfa j hj (by omega)
    have fv := f3 (Or.inr z)
    rw [a3] at K ⊢
    rw [show m + (pg_en kd c (j + 1) - j) = (m + (pg_en kd c (j + 1) - (j + 1))) + 1 by omega]
    refine ST _ ?_
    rw [z]
    refine br_f (by decide) (br_t (by decide) ?_)
    rw [ej, g, nI_add, nI_add, nI_clamp (n := base + nv + fA j) (by omega), Nat.add_assoc base nv (fA j), hW _ (by omega)]
    refine And.intro iv (And.intro (vp_in_nI (by omega) (by decide)) ?_)
    have hv := hs (nv + fA j) (by omega)
    refine yw_lub hjn hn hr hv ?_
    refine br_f (by decide) (br_f (by decide) (nm_r (nI_1 j) ?_))
    refine ih (j + 1) (by omega) a1 a2 (by omega) (by rw [pg_bd_in (by omega) hch]; exact hbd) m _ h (L.2.1 _ _ hr hv) (by omega) (fun h' hh' => ?_)
    have := K h' hh'
    rw [e3 z, ← ass _ _ hv (tb _ a1)] at this
    exact this
  · have q := pg_k0 C hj (by omega)
    have fv := f7 (Or.inr z)
    rw [hbd] at fv e4
    rw [q] at K ⊢
    rw [show m + (j + 1 - j) = m + 1 by omega]
    refine ST m ?_
    rw [z]
    refine br_f (by decide) (br_f (by decide) (br_t (by decide) ?_))
    rw [bz_3, nI_add, nI_add, nI_1, nI_clamp (n := base + (nv + na) + 3 * bdy + 1) (by omega), show base + (nv + na) + 3 * bdy + 1 = base + (nv + na + 3 * bdy + 1) by omega, hW _ (by omega)]
    refine And.intro (vp_in_nI (by omega) (by decide)) ?_
    refine yw_lub hjn hn hr (hs _ (by omega)) ?_
    refine br_f (by decide) (nm_r (nI_1 j) ?_)
    have := K h (by omega)
    rw [e4 z] at this
    exact this
  · obtain ⟨a1, a2, a3, a4, a5, a6⟩ := pg_k2 C hj (by omega)
    have hc0 := pg_c0 C.1 C.2.1 hj (by rw [z]; decide)
    have hc1 := pg_cS C.1 C.2.1 hc0.1 hc0.2 (by rw [z]; decide)
    obtain ⟨en5, en6⟩ := pg_enlt C a4
    rw [a6] at K ⊢
    rw [show m + (pg_en kd c (pg_en kd c (j + 1)) - j) = ((m + (pg_en kd c (pg_en kd c (j + 1)) - pg_en kd c (j + 1))) + (pg_en kd c (j + 1) - (j + 1))) + 1 by omega]
    refine ST _ ?_
    rw [z]
    refine br_f (by decide) (br_f (by decide) (br_f (by decide) (br_f (by decide) (nm_r (nI_1 j) ?_))))
    refine ih (j + 1) (by omega) a1 a2 (by omega) (by rw [pg_bd_in (by omega) (pg_ch_ec hc0.2)]; exact hbd) _ r h hr (by omega) (fun h' hh' => ?_)
    refine ih _ (by omega) a4 a5 (by omega) (by rw [pg_bd_in (by omega) (pg_ch_ec hc1.2.2)]; exact hbd) m _ h' (L.2.1 _ _ hr (tb _ a1)) hh' (fun h'' hh'' => ?_)
    have := K h'' hh''
    rw [e5 z, ← ass _ _ (tb _ a1) (tb _ a4)] at this
    exact this
  · rw [show m + (pg_en kd c j - j) = (m + (pg_en kd c j - (j + 1))) + 1 by omega]
    refine ST _ ?_
    rw [z]
    refine br_f (by decide) (br_f (by decide) (br_f (by decide) (br_t (by decide) ?_)))
    have hdj := hdl j hj z
    have fin : ∀ x, x = nI (dl j) → wY_exprLevel_181 post (wY_exprLevel_35 post (nI base) (nI e) (nI bdy) (nI n) (nI nv) (nI na) (nI np) (nI (nv + na)) (nI (nv + na + 3 * np)) sl iS rS yC yF bo (nI c) yD yA yT od yB yL yE ki fa fb yV eS oC dC yK cP cR oL oV dT dK (m + (pg_en kd c j - (j + 1)))) (nI base) (nI e) (nI bdy) (nI j) x (nI r) (nI n) (nI nv) (nI na) (nI np) (nI (nv + na)) (nI (nv + na + 3 * np)) sl iS rS yC yF bo (nI c) yD yA yT od yB yL yE ki fa fb yV eS oC dC yK cP cR oL oV dT dK := by
      intro x ex
      subst ex
      refine yw_lub hjn hn hr hdj.1 ?_
      refine yw_end hk hc (i := j) (by omega) ?_ rfl
      refine nm_r (nI_1 j) ?_
      refine yw_skip (by omega) (by omega) (pg_en kd c j - (j + 1)) m (j + 1) (by omega) ?_
      have := K (pg_en kd c j) (Nat.le_refl _)
      rw [e6 z] at this
      exact this
    rcases hdj.2 with ⟨d1, d2⟩ | ⟨d1, d2⟩
    · subst d1
      exact br_t rfl (fin _ (by rw [d2]; rfl))
    · subst d1
      refine br_f (by decide) (And.intro iv ?_)
      rw [ej]
      exact fin _ d2
theorem yw_exl (H : yi_H kd fA fB n nv na np c N J b dl base bo od ki fa fb) {s t : Nat → Nat} (T : sm_T kd fA nv na np c J b dl s t) (hs : ∀ k, k < nv + na + 3 * np → s k < N) (hW : yl_is yL base s (nv + na + 3 * np)) {i : Nat} (hi : i < c) (h9 : 9 ≤ kd i) {post : Int32 → Prop} (hp : post (nI (t i))) {x : Int32} (hx : x = nI i) : wpY_exprLevel post (nI n, nI nv, nI na, nI np, nI (nv + na), nI (nv + na + 3 * np), sl, iS, rS, yC, yF, bo, nI c, yD, yA, yT, od, yB, yL, yE, ki, fa, fb, yV, eS, oC, dC, yK, cP, cR, oL, oV, dT, dK) x (nI base) := by
  subst hx
  have H' := H
  obtain ⟨⟨hn, hnv, hna, hnp, hc, hN, hv1⟩, C, F, L, hk, hfa, hfb, hjn, hbo, hdl⟩ := H
  have tb := sm_tb C F L T hs (fun i hi h14 => (hdl i hi h14).1)
  obtain ⟨en1, en2⟩ := pg_enlt C hi
  have go : ∀ z, z = nI b → wY_exprLevel_14 post (nI i) (nI base) z (nI n) (nI nv) (nI na) (nI np) (nI (nv + na)) (nI (nv + na + 3 * np)) sl iS rS yC yF bo (nI c) yD yA yT od yB yL yE ki fa fb yV eS oC dC yK cP cR oL oV dT dK := by
    intro z ez
    subst ez
    refine yw_end hk hc (i := i) (by omega) ?_ rfl
    refine yw_body hk hc hnp C.1 (i := i) (by omega) ?_ rfl
    refine ⟨1 + (pg_en kd c i - i), ?_⟩
    refine yw_ex H' T hs hW (post := post) (e := pg_en kd c i) (bdy := pg_bd kd np i) en2 i hi h9 (Nat.le_refl _) rfl 1 b i L.1 (Nat.le_refl _) (fun h' _ => ?_)
    refine br_t (nI_le (Nat.le_refl _) (by omega)) ?_
    rw [L.2.2.2.2.2 _ (tb _ hi)]
    exact hp
  rcases hbo with ⟨b1, b2⟩ | ⟨b1, b2⟩
  · subst b1
    exact br_t rfl (go _ (by rw [b2]; rfl))
  · subst b1
    exact br_f (by decide) (go _ b2)
end
end
section
/-! the reference's pc levels, raises, flows and rounds -/
section
variable {n nv na np c : Nat} {sl iS rS yC yF bo yD yA yT : Int32} {od yB yL yE ki fa fb yV eS oC dC yK cP cR oL oV dT dK : Nat → Int32}
variable {kd fA fB dl : Nat → Nat} {N b base : Nat} {J : Nat → Nat → Nat}
theorem yw_pc51 (H : yi_H kd fA fB n nv na np c N J b dl base bo od ki fa fb) {s t : Nat → Nat} (T : sm_T kd fA nv na np c J b dl s t) (hs : ∀ k, k < nv + na + 3 * np → s k < N) (hW : yl_is yL base s (nv + na + 3 * np)) {i : Nat} (hi : i < c) {r0 : Nat} (hr0 : r0 < N) {post : Int32 → Prop} (hp : post (nI (sm_f kd c J t i r0 i))) :
    ∀ f j m, j + f = i → f < m → sm_f kd c J t i r0 j < N → wY_pcLevel_51 post (nI i) (nI base) (nI n) (nI nv) (nI na) (nI np) (nI (nv + na)) (nI (nv + na + 3 * np)) sl iS rS yC yF bo (nI c) yD yA yT od yB yL yE ki fa fb yV eS oC dC yK cP cR oL oV dT dK m (nI (sm_f kd c J t i r0 j)) (nI j) := by
  have H' := H
  obtain ⟨⟨hn, hnv, hna, hnp, hc, hN, hv1⟩, C, F, L, hk, hfa, hfb, hjn, hbo, hdl⟩ := H
  have tb := sm_tb C F L T hs (fun i hi h14 => (hdl i hi h14).1)
  intro f
  induction f with
  | zero =>
    intro j m hf hm hb
    obtain ⟨m, rfl⟩ : ∃ e, m = e + 1 := ⟨m - 1, by omega⟩
    have e : j = i := by omega
    subst e
    exact br_t (nI_le (Nat.le_refl _) (by omega)) hp
  | succ f ih =>
    intro j m hf hm hb
    obtain ⟨m, rfl⟩ : ∃ e, m = e + 1 := ⟨m - 1, by omega⟩
    obtain ⟨k1, k2⟩ := hk j (by omega)
    have iv : vp_in (nI j) 64 := vp_in_nI (by omega) (by decide)
    have en2 := pg_en_le (kd := kd) (c := c) j
    have eqf : sm_f kd c J t i r0 (j + 1) = if (kd j = 4 ∨ kd j = 5) ∧ i < pg_en kd c j then J (sm_f kd c J t i r0 j) (t (j + 1)) else sm_f kd c J t i r0 j := rfl
    have same : ¬ ((kd j = 4 ∨ kd j = 5) ∧ i < pg_en kd c j) → wY_pcLevel_101 post (wY_pcLevel_51 post (nI i) (nI base) (nI n) (nI nv) (nI na) (nI np) (nI (nv + na)) (nI (nv + na + 3 * np)) sl iS rS yC yF bo (nI c) yD yA yT od yB yL yE ki fa fb yV eS oC dC yK cP cR oL oV dT dK m) (nI i) (nI base) (nI (sm_f kd c J t i r0 j)) (nI j) (nI n) (nI nv) (nI na) (nI np) (nI (nv + na)) (nI (nv + na + 3 * np)) sl iS rS yC yF bo (nI c) yD yA yT od yB yL yE ki fa fb yV eS oC dC yK cP cR oL oV dT dK := by
      intro w
      rw [if_neg w] at eqf
      unfold wY_pcLevel_101 wY_pcLevel_103
      refine yw_lub hjn hn hb hb ?_
      refine nm_r (nI_1 j) ?_
      rw [L.2.2.1 _ hb, ← eqf]
      exact ih (j + 1) m (by omega) (by omega) (by rw [eqf]; exact hb)
    have P79 : (kd j = 4 ∨ kd j = 5) → wY_pcLevel_79 post (wY_pcLevel_51 post (nI i) (nI base) (nI n) (nI nv) (nI na) (nI np) (nI (nv + na)) (nI (nv + na + 3 * np)) sl iS rS yC yF bo (nI c) yD yA yT od yB yL yE ki fa fb yV eS oC dC yK cP cR oL oV dT dK m) (nI i) (nI base) (nI (sm_f kd c J t i r0 j)) (nI j) (nI n) (nI nv) (nI na) (nI np) (nI (nv + na)) (nI (nv + na + 3 * np)) sl iS rS yC yF bo (nI c) yD yA yT od yB yL yE ki fa fb yV eS oC dC yK cP cR oL oV dT dK := by
      intro h45
      obtain ⟨a1, a2, _⟩ := pg_k5 C (i := j) (by omega) h45
      refine yw_end hk hc (i := j) (by omega) ?_ rfl
      refine pk_le (pg_en kd c j) i (fun w => same (fun z => by omega)) (fun w => ?_) rfl rfl (by omega) (by omega)
      rw [if_pos ⟨h45, w⟩] at eqf
      refine yw_exl H' T hs hW a1 a2 ?_ (nI_1 j)
      refine yw_lub hjn hn hb (tb _ a1) ?_
      refine nm_r (nI_1 j) ?_
      rw [← eqf]
      exact ih (j + 1) m (by omega) (by omega) (by rw [eqf]; exact L.2.1 _ _ hb (tb _ a1))
    refine br_f (nI_ge (by omega) (by omega)) (And.intro iv ?_)
    rw [nI_clamp (n := j) (by omega), k1]
    refine pk_eq (kd j) 4 (fun e => P79 (Or.inl e)) (fun e4 => And.intro iv ?_) rfl rfl (by omega) (by omega)
    refine pk_eq (kd j) 5 (fun e => P79 (Or.inr e)) (fun e5 => same (fun z => by omega)) rfl rfl (by omega) (by omega)
theorem yw_pcl (H : yi_H kd fA fB n nv na np c N J b dl base bo od ki fa fb) {s t : Nat → Nat} (T : sm_T kd fA nv na np c J b dl s t) (hs : ∀ k, k < nv + na + 3 * np → s k < N) (hW : yl_is yL base s (nv + na + 3 * np)) {i : Nat} (hi : i < c) (h8 : kd i ≤ 8) {post : Int32 → Prop} (hp : post (nI (t i))) : wpY_pcLevel post (nI n, nI nv, nI na, nI np, nI (nv + na), nI (nv + na + 3 * np), sl, iS, rS, yC, yF, bo, nI c, yD, yA, yT, od, yB, yL, yE, ki, fa, fb, yV, eS, oC, dC, yK, cP, cR, oL, oV, dT, dK) (nI i) (nI base) := by
  have H' := H
  obtain ⟨⟨hn, hnv, hna, hnp, hc, hN, hv1⟩, C, F, L, hk, hfa, hfb, hjn, hbo, hdl⟩ := H
  have hb32 : base ≤ 32 := by rcases hjn with ⟨w, _⟩ | ⟨w, _⟩ <;> omega
  have hfold := sm_fold C T i hi h8
  have hbl := pg_bd_le C.1 hi
  refine yw_body hk hc hnp C.1 (i := i) (by omega) ?_ rfl
  have go : ∀ r, r < N → r = sm_bs kd nv na np b s i → wY_pcLevel_51 post (nI i) (nI base) (nI n) (nI nv) (nI na) (nI np) (nI (nv + na)) (nI (nv + na + 3 * np)) sl iS rS yC yF bo (nI c) yD yA yT od yB yL yE ki fa fb yV eS oC dC yK cP cR oL oV dT dK 65 (nI r) 0 := by
    intro r hr er
    refine yw_pc51 H' T hs hW hi hr ?_ i 0 65 (by omega) (by omega) hr
    rw [er, hfold]; exact hp
  refine pk_le np (pg_bd kd np i) (fun w => ?_) (fun w => ?_) rfl rfl (by omega) (by omega)
  · have er : b = sm_bs kd nv na np b s i := by unfold sm_bs; rw [if_neg (by omega)]
    rcases hbo with ⟨b1, b2⟩ | ⟨b1, b2⟩
    · have q := go b L.1 er
      rw [b2] at q
      exact br_t (by rw [b1]; rfl) ⟨65, q⟩
    · exact br_f (by rw [b1]; decide) ⟨65, by have q := go b L.1 er; rw [← b2] at q; exact q⟩
  · have er : s (nv + na + 3 * pg_bd kd np i) = sm_bs kd nv na np b s i := by unfold sm_bs; rw [if_pos w]
    rw [bz_3, nI_add, nI_add, nI_clamp (n := base + (nv + na) + 3 * pg_bd kd np i) (by omega), show base + (nv + na) + 3 * pg_bd kd np i = base + (nv + na + 3 * pg_bd kd np i) by omega, hW _ (by omega)]
    refine And.intro (vp_in_nI (by omega) (by decide)) (nm_e ⟨65, go _ (hs _ (by omega)) er⟩)
def yf_is (y0 yL : Nat → Int32) (base : Nat) (s : Nat → Nat) (k : Nat) : Prop := yl_is yL base s k ∧ (base = 32 → ∀ j, j < 32 → yL j = y0 j)
theorem yf_u {y0 : Nat → Int32} {s : Nat → Nat} {k l j : Nat} (hW : yf_is y0 yL base s k) : yf_is y0 (upd yL (base + j) (nI (J (s j) l))) base (sm_rs J s j l) k := by
  refine ⟨fun i hi => ?_, fun hb i hi => ?_⟩
  · unfold sm_rs
    by_cases e : i = j
    · subst e; rw [pk_us, if_pos rfl]
    · rw [pk_un (by omega), if_neg e]; exact hW.1 i hi
  · rw [pk_un (by omega)]; exact hW.2 hb i hi
/-- one raise of the reference as a step of a round -/
theorem yw_rq (H : yi_H kd fA fB n nv na np c N J b dl base bo od ki fa fb) {y0 : Nat → Int32} {s0 sr s : Nat → Nat} {D : Prop} (h0 : ∀ k, k < nv + na + 3 * np → s0 k < N) (hr : ∀ k, k < nv + na + 3 * np → sr k < N) (hQ : sm_Q kd fA fB nv na np c N J b dl s0 sr s yC D) (hW : yf_is y0 yL base s (nv + na + 3 * np)) {k l : Nat} (hA : sm_A kd fA fB nv na np c N J b dl s0 k l) {post : SY → Prop}
    (hp : ∀ x yL s', (x = 0 → yC = 0 ∧ s' = s) → sm_Q kd fA fB nv na np c N J b dl s0 sr s' x (D ∧ J l (sr k) = sr k) → yf_is y0 yL base s' (nv + na + 3 * np) → post (nI n, nI nv, nI na, nI np, nI (nv + na), nI (nv + na + 3 * np), sl, iS, rS, x, yF, bo, nI c, yD, yA, yT, od, yB, yL, yE, ki, fa, fb, yV, eS, oC, dC, yK, cP, cR, oL, oV, dT, dK)) {p q : Int32} (hpk : p = nI k) (hql : q = nI l) : wpY_raise post (nI n, nI nv, nI na, nI np, nI (nv + na), nI (nv + na + 3 * np), sl, iS, rS, yC, yF, bo, nI c, yD, yA, yT, od, yB, yL, yE, ki, fa, fb, yV, eS, oC, dC, yK, cP, cR, oL, oV, dT, dK) p q (nI base) := by
  subst hpk hql
  obtain ⟨⟨hn, hnv, hna, hnp, hc, hN, hv1⟩, C, F, L, hk, hfa, hfb, hjn, hbo, hdl⟩ := H
  have hb32 : base ≤ 32 := by rcases hjn with ⟨w, _⟩ | ⟨w, _⟩ <;> omega
  have hk1 := hA.1
  have hsk := hQ.1.1 k hk1
  have hl := hA.2.1
  have hj := L.2.1 _ _ hsk hl
  have iv : vp_in (nI (base + k)) 64 := vp_in_nI (by omega) (by decide)
  have ek : (nI (base + k)).toNatClampNeg = base + k := nI_clamp (by omega)
  have e1 := hW.1 k hk1
  show vp_in (nI base + nI k) 64 ∧ _
  rw [nI_add, ek, e1]
  refine And.intro iv ?_
  refine yw_lub hjn hn hsk hl ?_
  refine And.intro iv ?_
  refine pk_eq (J (s k) l) (s k) (fun e => ?_) (fun e => ?_) rfl rfl (by omega) (by omega)
  · show vp_in (nI base + nI k) 64 ∧ _
    rw [nI_add, ek]
    refine And.intro iv (nm_e ?_)
    rw [bz_u0 (by rw [e1, e])]
    exact hp yC yL s (fun w => ⟨w, rfl⟩) (sm_Qn L hQ hA e) hW
  · show vp_in (nI base + nI k) 64 ∧ _
    rw [nI_add, ek]
    refine And.intro iv (nm_e ?_)
    exact hp 1 _ _ (fun w => absurd w (by decide)) (sm_Qy L _ h0 hr hQ hA e) (yf_u hW)
/-- three raises of one slot -/
theorem yw_r3 (H : yi_H kd fA fB n nv na np c N J b dl base bo od ki fa fb) {y0 : Nat → Int32} {s0 sr s : Nat → Nat} {D : Prop} (h0 : ∀ k, k < nv + na + 3 * np → s0 k < N) (hr : ∀ k, k < nv + na + 3 * np → sr k < N) (hQ : sm_Q kd fA fB nv na np c N J b dl s0 sr s yC D) (hW : yf_is y0 yL base s (nv + na + 3 * np)) {k l1 l2 l3 : Nat} (a1 : sm_A kd fA fB nv na np c N J b dl s0 k l1) (a2 : sm_A kd fA fB nv na np c N J b dl s0 k l2) (a3 : sm_A kd fA fB nv na np c N J b dl s0 k l3) {post : SY → Prop} {p : Int32} (hpk : p = nI k)
    (hp : ∀ x yL s', (x = 0 → yC = 0 ∧ s' = s) → sm_Q kd fA fB nv na np c N J b dl s0 sr s' x (((D ∧ J l1 (sr k) = sr k) ∧ J l2 (sr k) = sr k) ∧ J l3 (sr k) = sr k) → yf_is y0 yL base s' (nv + na + 3 * np) → post (nI n, nI nv, nI na, nI np, nI (nv + na), nI (nv + na + 3 * np), sl, iS, rS, x, yF, bo, nI c, yD, yA, yT, od, yB, yL, yE, ki, fa, fb, yV, eS, oC, dC, yK, cP, cR, oL, oV, dT, dK)) :
    wpY_raise (fun u => wpY_raise (fun u => wpY_raise post u p (nI l3) (nI base)) u p (nI l2) (nI base)) (nI n, nI nv, nI na, nI np, nI (nv + na), nI (nv + na + 3 * np), sl, iS, rS, yC, yF, bo, nI c, yD, yA, yT, od, yB, yL, yE, ki, fa, fb, yV, eS, oC, dC, yK, cP, cR, oL, oV, dT, dK) p (nI l1) (nI base) := by
  refine yw_rq H h0 hr hQ hW a1 (fun x1 yL s1 e1 hQ1 hW1 => ?_) hpk rfl
  refine yw_rq H h0 hr hQ1 hW1 a2 (fun x2 yL s2 e2 hQ2 hW2 => ?_) hpk rfl
  refine yw_rq H h0 hr hQ2 hW2 a3 (fun x3 yL s3 e3 hQ3 hW3 => ?_) hpk rfl
  refine hp x3 yL s3 (fun w => ?_) hQ3 hW3
  obtain ⟨w1, w2⟩ := e3 w
  obtain ⟨w3, w4⟩ := e2 w1
  obtain ⟨w5, w6⟩ := e1 w3
  exact ⟨w5, by rw [w2, w4, w6]⟩
theorem yw_fl155 (H : yi_H kd fA fB n nv na np c N J b dl base bo od ki fa fb) {y0 : Nat → Int32} {s0 sr s : Nat → Nat} {D : Prop} (h0 : ∀ k, k < nv + na + 3 * np → s0 k < N) (hr : ∀ k, k < nv + na + 3 * np → sr k < N) (hQ : sm_Q kd fA fB nv na np c N J b dl s0 sr s yC D) (hW : yf_is y0 yL base s (nv + na + 3 * np)) {i : Nat} (hi : i < c) {k l1 l2 l3 pcs : Nat} (a1 : sm_A kd fA fB nv na np c N J b dl s0 k l1) (a2 : sm_A kd fA fB nv na np c N J b dl s0 k l2) (a3 : sm_A kd fA fB nv na np c N J b dl s0 k l3)
    (hcall : kd i = 6 → pcs + 2 < nv + na + 3 * np ∧ sm_A kd fA fB nv na np c N J b dl s0 pcs l3 ∧ sm_A kd fA fB nv na np c N J b dl s0 (fB i) l3 ∧ (∀ s1, sm_I kd fA fB nv na np c N J b dl s0 s1 → sm_A kd fA fB nv na np c N J b dl s0 (fB i) (s1 (pcs + 2)))) {post : SY → Prop}
    (hp : ∀ x yL s', (x = 0 → yC = 0 ∧ s' = s) → sm_Q kd fA fB nv na np c N J b dl s0 sr s' x (D ∧ J l1 (sr k) = sr k ∧ J l2 (sr k) = sr k ∧ J l3 (sr k) = sr k ∧ (kd i = 6 → s = sr → J l3 (sr pcs) = sr pcs ∧ J (sr (pcs + 2)) (sr (fB i)) = sr (fB i) ∧ J l3 (sr (fB i)) = sr (fB i))) → yf_is y0 yL base s' (nv + na + 3 * np) → post (nI n, nI nv, nI na, nI np, nI (nv + na), nI (nv + na + 3 * np), sl, iS, rS, x, yF, bo, nI c, yD, yA, yT, od, yB, yL, yE, ki, fa, fb, yV, eS, oC, dC, yK, cP, cR, oL, oV, dT, dK)) {z0 x4 : Int32} (hz : z0 = nI k) (hx4 : kd i = 6 → x4 = nI pcs) :
    wY_flows_155 post (nI i) (nI base) (nI (kd i)) x4 (nI l3) (nI l1) (nI l2) z0 (nI n) (nI nv) (nI na) (nI np) (nI (nv + na)) (nI (nv + na + 3 * np)) sl iS rS yC yF bo (nI c) yD yA yT od yB yL yE ki fa fb yV eS oC dC yK cP cR oL oV dT dK := by
  have H' := H
  obtain ⟨⟨hn, hnv, hna, hnp, hc, hN, hv1⟩, C, F, L, hk, hfa, hfb, hjn, hbo, hdl⟩ := H
  have hb32 : base ≤ 32 := by rcases hjn with ⟨w, _⟩ | ⟨w, _⟩ <;> omega
  have iv : vp_in (nI i) 64 := vp_in_nI (by omega) (by decide)
  have k15 := (hk i hi).2
  have gfb := hfb i hi
  refine yw_r3 H' h0 hr hQ hW a1 a2 a3 hz (fun x yL s3 e3 hQ3 hW3 => ?_)
  refine pk_eq (kd i) 6 (fun h6 => ?_) (fun h6 => ?_) rfl rfl (by omega) (by omega)
  · obtain ⟨c1, c2, c3, c4⟩ := hcall h6
    rw [hx4 h6]
    refine yw_rq H' h0 hr hQ3 hW3 c2 (fun x4 yL s4 e4 hQ4 hW4 => ?_) rfl rfl
    show vp_in (nI i) 64 ∧ _
    rw [nI_add, show (2 : Int32) = nI 2 from rfl, nI_add, nI_clamp (n := i) (by omega), nI_clamp (n := base + pcs + 2) (by omega), gfb, show base + pcs + 2 = base + (pcs + 2) by omega, hW4.1 _ c1]
    refine And.intro iv (And.intro (vp_in_nI (by omega) (by decide)) ?_)
    refine yw_rq H' h0 hr hQ4 hW4 (c4 s4 hQ4.1) (fun x5 yL s5 e5 hQ5 hW5 => ?_) rfl rfl
    show vp_in (nI i) 64 ∧ _
    rw [gfb]
    refine And.intro iv ?_
    refine yw_rq H' h0 hr hQ5 hW5 c3 (fun x6 yL s6 e6 hQ6 hW6 => ?_) rfl rfl
    have back : x6 = 0 → (yC = 0 ∧ s6 = s) ∧ s4 = s := by
      intro w
      obtain ⟨w1, w2⟩ := e6 w
      obtain ⟨w3, w4⟩ := e5 w1
      obtain ⟨w5, w6⟩ := e4 w3
      obtain ⟨w7, w8⟩ := e3 w5
      exact ⟨⟨w7, by rw [w2, w4, w6, w8]⟩, by rw [w6, w8]⟩
    refine hp x6 yL s6 (fun w => (back w).1) ?_ hW6
    refine ⟨hQ6.1, hQ6.2.1, hQ6.2.2.elim (fun w => Or.inl ⟨w.1, w.2.1, ?_⟩) Or.inr⟩
    obtain ⟨w0, w1, w2⟩ := w
    have b := back w0
    refine ⟨w2.1.1.1.1.1.1, w2.1.1.1.1.1.2, w2.1.1.1.1.2, w2.1.1.1.2, fun _ es => ⟨w2.1.1.2, ?_, w2.2⟩⟩
    have := w2.1.2
    rw [b.2, es] at this
    exact this
  · refine hp x yL s3 e3 ?_ hW3
    exact sm_Qc hQ3 (fun _ w => ⟨w.1.1.1, w.1.1.2, w.1.2, w.2, fun z => absurd z h6⟩)
theorem yw_flows (H : yi_H kd fA fB n nv na np c N J b dl base bo od ki fa fb) {y0 : Nat → Int32} {s0 sr s : Nat → Nat} (h0 : ∀ k, k < nv + na + 3 * np → s0 k < N) (hr : ∀ k, k < nv + na + 3 * np → sr k < N) {i : Nat} (hi : i < c) (hQ : sm_Q kd fA fB nv na np c N J b dl s0 sr s yC (∀ t', sm_T kd fA nv na np c J b dl sr t' → ∀ j, j < i → sm_c kd fA fB nv na np c J sr t' j)) (hW : yf_is y0 yL base s (nv + na + 3 * np)) {post : SY → Prop}
    (hp : ∀ x yL s', sm_Q kd fA fB nv na np c N J b dl s0 sr s' x (∀ t', sm_T kd fA nv na np c J b dl sr t' → ∀ j, j < i + 1 → sm_c kd fA fB nv na np c J sr t' j) → yf_is y0 yL base s' (nv + na + 3 * np) → post (nI n, nI nv, nI na, nI np, nI (nv + na), nI (nv + na + 3 * np), sl, iS, rS, x, yF, bo, nI c, yD, yA, yT, od, yB, yL, yE, ki, fa, fb, yV, eS, oC, dC, yK, cP, cR, oL, oV, dT, dK)) : wpY_flows post (nI n, nI nv, nI na, nI np, nI (nv + na), nI (nv + na + 3 * np), sl, iS, rS, yC, yF, bo, nI c, yD, yA, yT, od, yB, yL, yE, ki, fa, fb, yV, eS, oC, dC, yK, cP, cR, oL, oV, dT, dK) (nI i) (nI base) := by
  have H' := H
  obtain ⟨⟨hn, hnv, hna, hnp, hc, hN, hv1⟩, C, F, L, hk, hfa, hfb, hjn, hbo, hdl⟩ := H
  have hd : ∀ i, i < c → kd i = 14 → dl i < N := fun i hi h14 => (hdl i hi h14).1
  obtain ⟨t, T⟩ := sm_ex (fA := fA) (nv := nv) (na := na) (J := J) (b := b) (dl := dl) C s
  have tb := sm_tb C F L T hQ.1.1 hd
  obtain ⟨k1, k2⟩ := hk i hi
  obtain ⟨f1, f2, f3, f4, f5, f6, f7⟩ := F i hi
  obtain ⟨A1, A2, A7, A6⟩ := sm_ad C F L hd hQ.1 T hi
  have iv : vp_in (nI i) 64 := vp_in_nI (by omega) (by decide)
  -- from a round with the constraint of token i to the next token
  have nx : ∀ x yL s' (E : Prop), (x = 0 → yC = 0 ∧ s' = s) → sm_Q kd fA fB nv na np c N J b dl s0 sr s' x ((∀ t', sm_T kd fA nv na np c J b dl sr t' → ∀ j, j < i → sm_c kd fA fB nv na np c J sr t' j) ∧ E) → (s = sr → E → sm_c kd fA fB nv na np c J sr t i) → yf_is y0 yL base s' (nv + na + 3 * np) → post (nI n, nI nv, nI na, nI np, nI (nv + na), nI (nv + na + 3 * np), sl, iS, rS, x, yF, bo, nI c, yD, yA, yT, od, yB, yL, yE, ki, fa, fb, yV, eS, oC, dC, yK, cP, cR, oL, oV, dT, dK) := by
    intro x yL s' E e0 q f w
    refine hp x yL s' ⟨q.1, q.2.1, q.2.2.elim (fun z => Or.inl ⟨z.1, z.2.1, ?_⟩) Or.inr⟩ w
    obtain ⟨z1, z2, z3, z4⟩ := z
    have es : s = sr := by rw [← (e0 z1).2, z2]
    intro t' T'
    refine lt_s (z3 t' T') ?_
    have T2 : sm_T kd fA nv na np c J b dl sr t := by rw [← es]; exact T
    exact sm_cc C (sm_tu C F L T2 T' hr hd) hi (f es z4)
  refine And.intro iv ?_
  rw [nI_clamp (n := i) (by omega), k1]
  refine nm_e ?_
  have P : (kd i = 1 ∨ kd i = 2 ∨ kd i = 6 ∨ kd i = 7) → wY_flows_30 post (nI i) (nI base) (nI (kd i)) (nI n) (nI nv) (nI na) (nI np) (nI (nv + na)) (nI (nv + na + 3 * np)) sl iS rS yC yF bo (nI c) yD yA yT od yB yL yE ki fa fb yV eS oC dC yK cP cR oL oV dT dK := by
    intro hki
    have gfa := hfa i hi (by omega)
    have ar1 : 0 < pg_ar (kd i) := by rcases hki with w | w | w | w <;> rw [w] <;> decide
    obtain ⟨d1, d2⟩ := pg_c0 C.1 C.2.1 hi ar1
    have d3 : 9 ≤ kd (i + 1) := by
      have := (C.2.2 _ d1).1 _ _ d2
      unfold pg_sc at this
      omega
    have bl := pg_bd_le C.1 hi
    have R : ∀ q x4, q ≤ 3 → x4 = nv + na + 3 * q → (kd i = 6 → q = fA i) → (¬ kd i = 6 → q = pg_bd kd np i) → wY_flows_55 post (nI i) (nI base) (nI (kd i)) (nI q) 3 (nI (nv + na)) (nI n) (nI nv) (nI na) (nI np) (nI (nv + na)) (nI (nv + na + 3 * np)) sl iS rS yC yF bo (nI c) yD yA yT od yB yL yE ki fa fb yV eS oC dC yK cP cR oL oV dT dK := by
      intro q x4 hq3 hx4 hq6 hq7
      subst hx4
      refine nm_r (e' := nI (nv + na + 3 * q)) (by rw [bz_3, nI_add]) ?_
      refine yw_end hk hc (i := i + 1) (by omega) ?_ (nI_1 i)
      refine yw_pcl H' T hQ.1.1 hW.1 hi (by omega) ?_
      refine yw_exl H' T hQ.1.1 hW.1 d1 d3 ?_ (nI_1 i)
      have ti := tb _ hi
      have t1 := tb _ d1
      rcases hki with z | z | z | z
      · obtain ⟨B1, B2⟩ := sm_AJ L t1 ti (A1 z)
        refine br_f (by rw [z]; decide) (br_t (by rw [z]; rfl) (And.intro iv ?_))
        rw [nI_clamp (n := i) (by omega)]
        refine yw_fl155 H' h0 hr hQ hW hi B1 B2 B2 (pcs := 0) (fun w => by omega) (fun x yL s' e0 q w => nx x yL s' _ e0 q (fun es E => ?_) w) gfa (fun w => by omega)
        exact ⟨fun _ => sm_u L t1 ti (hr _ B1.1) E.1 E.2.1, fun w => by omega, fun w => by omega, fun w => by omega⟩
      · obtain ⟨a1, a2, a3, a4, a5, a6⟩ := pg_k2 C hi (by omega)
        have t2 := tb _ a4
        obtain ⟨B0, B3⟩ := sm_AJ L (L.2.1 _ _ t1 ti) t2 (A2 z)
        obtain ⟨B1, B2⟩ := sm_AJ L t1 ti B0
        refine br_t (by rw [z]; rfl) ?_
        refine yw_exl H' T hQ.1.1 hW.1 a4 a5 ?_ rfl
        refine br_f (by rw [z]; decide) (br_t (by rw [z]; rfl) (And.intro iv ?_))
        rw [nI_clamp (n := i) (by omega)]
        refine yw_fl155 H' h0 hr hQ hW hi B1 B3 B2 (pcs := 0) (fun w => by omega) (fun x yL s' e0 q w => nx x yL s' _ e0 q (fun es E => ?_) w) (by rw [gfa, nI_add]) (fun w => by omega)
        exact ⟨fun w => by omega, fun _ => sm_u L (L.2.1 _ _ t1 ti) t2 (hr _ B1.1) (sm_u L t1 ti (hr _ B1.1) E.1 E.2.2.1) E.2.1, fun w => by omega, fun w => by omega⟩
      · obtain ⟨G0, G1, G2⟩ := A6 z
        obtain ⟨B1, B2⟩ := sm_AJ L t1 ti G1
        have eq := hq6 z
        subst eq
        have f41 := (f4 z).1
        refine br_f (by rw [z]; decide) (br_f (by rw [z]; decide) (br_f (by rw [z]; decide) (br_t (by rw [z]; rfl) ?_)))
        have q2 : nv + na + 3 * fA i + 2 < nv + na + 3 * np := by omega
        refine yw_fl155 H' h0 hr hQ hW hi B1 B2 B2 (pcs := nv + na + 3 * fA i) (fun _ => ⟨q2, G0, (sm_AJ L (hQ.1.1 _ q2) ti (G2 s hQ.1)).2, fun s1 h1 => (sm_AJ L (h1.1 _ q2) ti (G2 s1 h1)).1⟩) (fun x yL s' e0 q w => nx x yL s' _ e0 q (fun es E => ?_) w) (nI_1 _) (fun _ => rfl)
        obtain ⟨E1, E2, E3, E4⟩ := E
        obtain ⟨g1, g2, g3⟩ := E4 z es
        have f42 := (f4 z).2
        exact ⟨fun w => by omega, fun w => by omega, fun w => by omega, fun _ => ⟨g1, sm_u L t1 ti (hr _ B1.1) E1 E2, sm_u L (hr _ q2) ti (hr _ (by omega)) g2 g3⟩⟩
      · obtain ⟨B1, B2⟩ := sm_AJ L t1 ti (A7 z)
        have eq := hq7 (by omega)
        subst eq
        refine br_f (by rw [z]; decide) (br_f (by rw [z]; decide) (br_f (by rw [z]; decide) (br_f (by rw [z]; decide) ?_)))
        refine yw_fl155 H' h0 hr hQ hW hi B1 B2 B2 (pcs := 0) (fun w => by omega) (fun x yL s' e0 q w => nx x yL s' _ e0 q (fun es E => ?_) w) (by rw [show (2 : Int32) = nI 2 from rfl, nI_add]) (fun w => by omega)
        exact ⟨fun w => by omega, fun w => by omega, fun _ => sm_u L t1 ti (hr _ B1.1) E.1 E.2.1, fun w => by omega⟩
    refine pk_eq (kd i) 6 (fun e => And.intro iv ?_) (fun e => ?_) rfl rfl (by omega) (by omega)
    · rw [nI_clamp (n := i) (by omega), gfa]
      exact R (fA i) _ (by have := (f4 e).1; omega) rfl (fun _ => rfl) (fun w => absurd e w)
    · refine yw_body hk hc hnp C.1 (i := i) (by omega) ?_ rfl
      exact R (pg_bd kd np i) _ (by omega) rfl (fun w => absurd w e) (fun _ => rfl)
  refine pk_eq (kd i) 1 (fun e => P (by omega)) (fun e1 => ?_) rfl rfl (by omega) (by omega)
  refine pk_eq (kd i) 2 (fun e => P (by omega)) (fun e2 => ?_) rfl rfl (by omega) (by omega)
  refine pk_eq (kd i) 6 (fun e => P (by omega)) (fun e6 => ?_) rfl rfl (by omega) (by omega)
  refine pk_eq (kd i) 7 (fun e => P (by omega)) (fun e7 => ?_) rfl rfl (by omega) (by omega)
  exact hp yC yL s (sm_Qc hQ (fun _ w => fun t' T' => lt_s (w t' T') ⟨fun e => absurd e e1, fun e => absurd e e2, fun e => absurd e e7, fun e => absurd e e6⟩)) hW
theorem yw_l78 (H : yi_H kd fA fB n nv na np c N J b dl base bo od ki fa fb) {y0 : Nat → Int32} {s0 sr : Nat → Nat} (h0 : ∀ k, k < nv + na + 3 * np → s0 k < N) (hr : ∀ k, k < nv + na + 3 * np → sr k < N) {q : Nat} {post : SY → Prop} {J56 : Int32 → Int32 → Int32 → Int32 → Int32 → Int32 → Int32 → Int32 → Int32 → Int32 → Int32 → Int32 → Int32 → Int32 → Int32 → Int32 → Int32 → (Nat → Int32) → (Nat → Int32) → (Nat → Int32) → (Nat → Int32) → (Nat → Int32) → (Nat → Int32) → (Nat → Int32) → (Nat → Int32) → (Nat → Int32) → (Nat → Int32) → (Nat → Int32) → (Nat → Int32) → (Nat → Int32) → (Nat → Int32) → (Nat → Int32) → (Nat → Int32) → (Nat → Int32) → (Nat → Int32) → Prop}
    (hJ : ∀ yC yL s', sm_Q kd fA fB nv na np c N J b dl s0 sr s' yC (∀ t', sm_T kd fA nv na np c J b dl sr t' → ∀ j, j < c → sm_c kd fA fB nv na np c J sr t' j) → yf_is y0 yL base s' (nv + na + 3 * np) → J56 (nI (q + 1)) (nI n) (nI nv) (nI na) (nI np) (nI (nv + na)) (nI (nv + na + 3 * np)) sl iS rS yC yF bo (nI c) yD yA yT od yB yL yE ki fa fb yV eS oC dC yK cP cR oL oV dT dK) :
    ∀ f i m yC yL s, i + f = c → f < m → sm_Q kd fA fB nv na np c N J b dl s0 sr s yC (∀ t', sm_T kd fA nv na np c J b dl sr t' → ∀ j, j < i → sm_c kd fA fB nv na np c J sr t' j) → yf_is y0 yL base s (nv + na + 3 * np) → wY_least_78 post J56 (nI base) (nI q) m (nI i) (nI n) (nI nv) (nI na) (nI np) (nI (nv + na)) (nI (nv + na + 3 * np)) sl iS rS yC yF bo (nI c) yD yA yT od yB yL yE ki fa fb yV eS oC dC yK cP cR oL oV dT dK := by
  have hc : c ≤ 64 := H.1.2.2.2.2.1
  intro f
  induction f with
  | zero =>
    intro i m yC yL s hf hm hQ hW
    obtain ⟨m, rfl⟩ : ∃ e, m = e + 1 := ⟨m - 1, by omega⟩
    have e : i = c := by omega
    subst e
    exact br_t (nI_le (by omega) (by omega)) (nm_r (nI_1 q) (hJ yC yL s hQ hW))
  | succ f ih =>
    intro i m yC yL s hf hm hQ hW
    obtain ⟨m, rfl⟩ : ∃ e, m = e + 1 := ⟨m - 1, by omega⟩
    refine br_f (nI_ge (by omega) (by omega)) ?_
    refine yw_flows H h0 hr (by omega) hQ hW (fun x yL s' hQ' hW' => ?_)
    exact nm_r (nI_1 i) (ih (i + 1) m x yL s' (by omega) (by omega) hQ' hW')
theorem yw_l56 (H : yi_H kd fA fB n nv na np c N J b dl base bo od ki fa fb) {y0 : Nat → Int32} {s0 : Nat → Nat} (h0 : ∀ k, k < nv + na + 3 * np → s0 k < N) {post : SY → Prop}
    (hp : ∀ yC yL s, sm_W kd fA fB nv na np c N J b dl s0 s → yf_is y0 yL base s (nv + na + 3 * np) → post (nI n, nI nv, nI na, nI np, nI (nv + na), nI (nv + na + 3 * np), sl, iS, rS, yC, yF, bo, nI c, yD, yA, yT, od, yB, yL, yE, ki, fa, fb, yV, eS, oC, dC, yK, cP, cR, oL, oV, dT, dK)) :
    ∀ f i m yC yL s, i + f = 169 → f < m → sm_I kd fA fB nv na np c N J b dl s0 s → yf_is y0 yL base s (nv + na + 3 * np) → ((yC = 0 ∧ sm_W kd fA fB nv na np c N J b dl s0 s) ∨ (yC = 1 ∧ i + 1 ≤ sm_M N J s (nv + na + 3 * np))) → wY_least_56 post (nI base) m (nI i) (nI n) (nI nv) (nI na) (nI np) (nI (nv + na)) (nI (nv + na + 3 * np)) sl iS rS yC yF bo (nI c) yD yA yT od yB yL yE ki fa fb yV eS oC dC yK cP cR oL oV dT dK := by
  have H' := H
  obtain ⟨⟨hn, hnv, hna, hnp, hc, hN, hv1⟩, C, F, L, hk, hfa, hfb, hjn, hbo, hdl⟩ := H
  have mle : ∀ s, sm_M N J s (nv + na + 3 * np) ≤ 168 := by
    intro s
    have a := sm_Mle (N := N) (J := J) s (nv + na + 3 * np)
    have b1 : (nv + na + 3 * np) * N ≤ 21 * 8 := Nat.mul_le_mul (by omega) hN
    omega
  intro f
  induction f with
  | zero =>
    intro i m yC yL s hf hm hI hW hx
    obtain ⟨m, rfl⟩ : ∃ e, m = e + 1 := ⟨m - 1, by omega⟩
    have := mle s
    rcases hx with ⟨_, h⟩ | ⟨_, h⟩
    · exact br_t (nI_le (a := 168) (by omega) (by omega)) (hp yC yL s h hW)
    · omega
  | succ f ih =>
    intro i m yC yL s hf hm hI hW hx
    obtain ⟨m, rfl⟩ : ∃ e, m = e + 1 := ⟨m - 1, by omega⟩
    have := mle s
    rcases hx with ⟨rfl, h⟩ | ⟨rfl, h⟩
    · exact br_c (fun _ => hp 0 yL s h hW) (fun _ => br_t rfl (hp 0 yL s h hW))
    · refine br_f (nI_ge (b := 168) (by omega) (by decide)) (br_f (by decide) ⟨65, ?_⟩)
      refine yw_l78 H' h0 hI.1 (fun yC yL s' hQ hW' => ?_) c 0 65 0 yL s (by omega) (by omega) (sm_Qc (sm_Q0 L hI) (fun _ _ => fun _ _ => lt_0)) hW
      rcases hQ.2.2 with ⟨rfl, es, cc⟩ | ⟨rfl, lt⟩
      · subst es
        exact ih (i + 1) m 0 yL s' (by omega) (by omega) hQ.1 hW' (Or.inl ⟨rfl, hQ.1, cc⟩)
      · exact ih (i + 1) m 1 yL s' (by omega) (by omega) hQ.1 hW' (Or.inr ⟨rfl, by omega⟩)
end
end
section
/-! the reference's fixed point search from its first map -/
section
variable {n nv na np c : Nat} {sl iS rS yC yF bo yD yA yT : Int32} {od yB yL yE ki fa fb yV eS oC dC yK cP cR oL oV dT dK : Nat → Int32}
variable {kd fA fB dl : Nat → Nat} {N b base : Nat} {J : Nat → Nat → Nat}
theorem yw_l2 (H : yi_H kd fA fB n nv na np c N J b dl base bo od ki fa fb) {y0 : Nat → Int32} {s0 : Nat → Nat} (h0 : ∀ k, k < nv + na + 3 * np → s0 k < N) {src : Int32}
    (hv : ∀ k, k < nv + na + 3 * np → (base = 32 ∧ (nI k = src → s0 k = 1) ∧ (¬ nI k = src → s0 k = 0)) ∨ (base = 0 ∧ yB k = nI (s0 k))) {post : SY → Prop}
    (hp : ∀ yC yL s, sm_W kd fA fB nv na np c N J b dl s0 s → yf_is y0 yL base s (nv + na + 3 * np) → post (nI n, nI nv, nI na, nI np, nI (nv + na), nI (nv + na + 3 * np), sl, iS, rS, yC, yF, bo, nI c, yD, yA, yT, od, yB, yL, yE, ki, fa, fb, yV, eS, oC, dC, yK, cP, cR, oL, oV, dT, dK)) :
    ∀ f i m yL, i + f = nv + na + 3 * np → f < m → yf_is y0 yL base s0 i → wY_least_2 post (nI base) src (nI n) (nI nv) (nI na) (nI np) (nI (nv + na)) (nI (nv + na + 3 * np)) sl iS rS yC yF bo (nI c) yD yA yT m (nI i) od yB yL yE ki fa fb yV eS oC dC yK cP cR oL oV dT dK := by
  have H' := H
  obtain ⟨⟨hn, hnv, hna, hnp, hc, hN, hv1⟩, C, F, L, hk, hfa, hfb, hjn, hbo, hdl⟩ := H
  have hb32 : base ≤ 32 := by rcases hjn with ⟨w, _⟩ | ⟨w, _⟩ <;> omega
  intro f
  induction f with
  | zero =>
    intro i m yL hf hm hW
    obtain ⟨m, rfl⟩ : ∃ e, m = e + 1 := ⟨m - 1, by omega⟩
    have e : i = nv + na + 3 * np := by omega
    subst e
    refine br_t (nI_le (by omega) (by omega)) ⟨170, ?_⟩
    refine yw_l56 H' h0 hp 169 0 170 1 yL s0 (by omega) (by omega) (sm_I0 L h0) hW (Or.inr ⟨rfl, ?_⟩)
    have := sm_M1 L h0
    omega
  | succ f ih =>
    intro i m yL hf hm hW
    obtain ⟨m, rfl⟩ : ∃ e, m = e + 1 := ⟨m - 1, by omega⟩
    have W : ∀ x, x = nI (s0 i) → wY_least_2 post (nI base) src (nI n) (nI nv) (nI na) (nI np) (nI (nv + na)) (nI (nv + na + 3 * np)) sl iS rS yC yF bo (nI c) yD yA yT m (nI (i + 1)) od yB (upd yL (base + i) x) yE ki fa fb yV eS oC dC yK cP cR oL oV dT dK := by
      intro x ex
      refine ih (i + 1) m _ (by omega) (by omega) ⟨fun j hj => ?_, fun hb j hj => ?_⟩
      · exact bz_uk (fun e => by rw [ex, show j = i by omega]) (fun e => hW.1 j (by omega))
      · rw [pk_un (by omega)]; exact hW.2 hb j hj
    have iv : vp_in (nI (base + i)) 64 := vp_in_nI (by omega) (by decide)
    refine br_f (nI_ge (by omega) (by omega)) ?_
    rw [nI_add, nI_clamp (n := base + i) (by omega), nI_1]
    rcases hv i (by omega) with ⟨e1, e2, e3⟩ | ⟨e1, e2⟩
    · refine br_t (by rw [e1]; rfl) ?_
      by_cases z : nI i = src
      · exact br_t z (And.intro iv (nm_e (nm_e (W _ (by rw [e2 z]; rfl)))))
      · exact br_f z (And.intro iv (nm_e (nm_e (W _ (by rw [e3 z]; rfl)))))
    · refine br_f (by rw [e1]; decide) ?_
      rw [nI_clamp (n := i) (by omega), e2]
      exact And.intro (vp_in_nI (by omega) (by decide)) (And.intro iv (nm_e (nm_e (W _ rfl))))
theorem yw_least (H : yi_H kd fA fB n nv na np c N J b dl base bo od ki fa fb) {s0 : Nat → Nat} (h0 : ∀ k, k < nv + na + 3 * np → s0 k < N) {src : Int32}
    (hv : ∀ k, k < nv + na + 3 * np → (base = 32 ∧ (nI k = src → s0 k = 1) ∧ (¬ nI k = src → s0 k = 0)) ∨ (base = 0 ∧ yB k = nI (s0 k))) {post : SY → Prop}
    (hp : ∀ yC yL' s, sm_W kd fA fB nv na np c N J b dl s0 s → yf_is yL yL' base s (nv + na + 3 * np) → post (nI n, nI nv, nI na, nI np, nI (nv + na), nI (nv + na + 3 * np), sl, iS, rS, yC, yF, bo, nI c, yD, yA, yT, od, yB, yL', yE, ki, fa, fb, yV, eS, oC, dC, yK, cP, cR, oL, oV, dT, dK)) : wpY_least post (nI n, nI nv, nI na, nI np, nI (nv + na), nI (nv + na + 3 * np), sl, iS, rS, yC, yF, bo, nI c, yD, yA, yT, od, yB, yL, yE, ki, fa, fb, yV, eS, oC, dC, yK, cP, cR, oL, oV, dT, dK) (nI base) src := by
  have h := H.1
  exact ⟨22, yw_l2 H h0 hv hp (nv + na + 3 * np) 0 22 yL (by omega) (by omega) ⟨fun j hj => absurd hj (Nat.not_lt_zero _), fun _ _ _ => rfl⟩⟩
end
end
section
/-! the relation -/
def rl_J (jo : Nat → Int32) (x y : Nat) : Nat := (jo (x * 8 + y)).toNatClampNeg
def rl_sz (n nv na np c : Nat) : Prop := 1 ≤ n ∧ n ≤ 8 ∧ 1 ≤ nv ∧ nv ≤ 8 ∧ na ≤ 4 ∧ np ≤ 3 ∧ c ≤ 64
def rl_od (n : Nat) (od : Nat → Int32) : Prop := od_b od ∧ od_P od n
def rl_sl (c : Nat) (sl iS rS : Int32) : Prop := (sl = 0 ∨ sl = 1) ∧ (sl = 0 → c = 0 ∧ iS = 0 ∧ rS = 0)
def rl_lat (n nv na np : Nat) (sl bo : Int32) (od jo loB hiB : Nat → Int32) : Prop := ¬ sl = 0 → (∃ b, b < n ∧ bo = nI b ∧ od_lst od n b) ∧ od_T od n n 0 jo ∧ ∀ k, k < nv + na + 3 * np → (∃ l, l < n ∧ loB k = nI l) ∧ (∃ h, h < n ∧ hiB k = nI h)
def rl_pg (n nv na np c : Nat) (pt : Int32) (ki fa fb bf ch bs ps pb pp : Nat → Int32) : Prop :=
  pg_G (kn ki) np c ∧ zz_k ki (kn ki) c ∧ pg_WT (kn ki) np c ∧ sm_F (kn ki) (kn fa) (kn fb) n nv na np c ∧ (∀ i, i < c → ¬ kn ki i = 9 → fa i = nI (kn fa i)) ∧ (∀ i, i < c → fb i = nI (kn fb i)) ∧
  pt = nI (pg_dp (kn ki) np c) ∧ px_S (kn ki) np c (pg_dp (kn ki) np c) ps pb pp ∧ px_H (kn ki) np c bf ch bs
def rl_gl (loB hiB yB ip me yE : Nat → Int32) : Prop := yB = gl 32 loB hiB ∧ yE = gl 96 ip me
def ft_b (od hiB : Nat → Int32) (s : Nat → Nat) (k : Nat) : Prop := ¬ od_le od (s k) (kn hiB k)
def ft_t (od ki fa : Nat → Int32) (t : Nat → Nat) (i : Nat) : Prop := kn ki i = 8 ∧ ¬ (od_le od (t (i + 1)) (kn fa i) ∧ od_le od (t i) (kn fa i))
/-- the first fault -/
def ft_is (nv na np c : Nat) (od hiB ki fa : Nat → Int32) (s t : Nat → Nat) (x : Int32) : Prop :=
  (∃ k, k < nv + na + 3 * np ∧ ft_b od hiB s k ∧ (∀ j, j < k → ¬ ft_b od hiB s j) ∧ x = nI k) ∨ ((∀ k, k < nv + na + 3 * np → ¬ ft_b od hiB s k) ∧
  ((∃ i, i < c ∧ ft_t od ki fa t i ∧ (∀ j, j < i → ¬ ft_t od ki fa t j) ∧ x = nI (100 + i)) ∨ ((∀ i, i < c → ¬ ft_t od ki fa t i) ∧ x = -2)))
def rl_inf (n nv na np c : Nat) (sl bo iS fc : Int32) (od jo hiB ki fa sB tL yL : Nat → Int32) : Prop := iS = 0 ∨ (iS = 1 ∧ ¬ sl = 0 ∧ pg_dp (kn ki) np c = 0 ∧
  ∃ s t, (∀ k, k < nv + na + 3 * np → s k < n ∧ sB k = nI (s k) ∧ yL k = nI (s k)) ∧ sm_T (kn ki) (kn fa) nv na np c (rl_J jo) bo.toNatClampNeg (kn fa) s t ∧ (∀ q, q < c → tL q = nI (t q)) ∧ ft_is nv na np c od hiB ki fa s t fc)
def rl_run (n np c : Nat) (sl rS : Int32) (ki oC oL dC : Nat → Int32) : Prop := rS = 0 ∨ (rS = 1 ∧ ¬ sl = 0 ∧ pg_dp (kn ki) np c = 0 ∧
  ∀ r, r < 2 → ∃ o d, o ≤ 16 ∧ oC r = nI o ∧ d ≤ 200 ∧ dC r = nI d ∧ ∀ i, i < o → ∃ l, l < n ∧ oL (r * 16 + i) = nI l)
def rl_F (n nv na np c : Nat) (sl bo pt iS fc rS : Int32) (od jo loB hiB ki fa fb bf ch bs ps pb pp sB tL ip me oC oL dC yB yL yE : Nat → Int32) : Prop :=
  rl_sz n nv na np c ∧ rl_od n od ∧ rl_sl c sl iS rS ∧ rl_lat n nv na np sl bo od jo loB hiB ∧ rl_pg n nv na np c pt ki fa fb bf ch bs ps pb pp ∧ rl_gl loB hiB yB ip me yE ∧ rl_inf n nv na np c sl bo iS fc od jo hiB ki fa sB tL yL ∧ rl_run n np c sl rS ki oC oL dC
/-- the relation at the head of a turn -/
def i_Rel (_ : Nat) (u : SX) (v : SY) : Prop := ∃ n : Nat, ∃ nv : Nat, ∃ na : Nat, ∃ np : Nat, ∃ c : Nat, ∃ sl : Int32, ∃ bo : Int32, ∃ pt : Int32, ∃ iS : Int32, ∃ fc : Int32, ∃ rS : Int32, ∃ cT : Int32, ∃ aC : Int32, ∃ tk : Int32, ∃ yC : Int32, ∃ yF : Int32, ∃ yD : Int32, ∃ yA : Int32, ∃ yT : Int32, ∃ od : Nat → Int32, ∃ jo : Nat → Int32, ∃ loB : Nat → Int32, ∃ hiB : Nat → Int32, ∃ ki : Nat → Int32, ∃ fa : Nat → Int32, ∃ fb : Nat → Int32, ∃ bf : Nat → Int32, ∃ ch : Nat → Int32, ∃ bs : Nat → Int32, ∃ ps : Nat → Int32, ∃ pb : Nat → Int32, ∃ pp : Nat → Int32, ∃ wS : Nat → Int32, ∃ wT : Nat → Int32, ∃ sB : Nat → Int32, ∃ tL : Nat → Int32, ∃ ip : Nat → Int32, ∃ me : Nat → Int32, ∃ eS : Nat → Int32, ∃ oC : Nat → Int32, ∃ oL : Nat → Int32, ∃ oV : Nat → Int32, ∃ dC : Nat → Int32, ∃ dT : Nat → Int32, ∃ dK : Nat → Int32, ∃ co : Nat → Int32, ∃ cP : Nat → Int32, ∃ cR : Nat → Int32, ∃ sE : Nat → Int32, ∃ eV : Nat → Int32, ∃ yB : Nat → Int32, ∃ yL : Nat → Int32, ∃ yE : Nat → Int32, ∃ yV : Nat → Int32, ∃ yK : Nat → Int32, u = (nI n, nI nv, nI na, nI np, nI (nv + na), nI (nv + na + 3 * np), sl, bo, nI c, pt, iS, fc, rS, cT, aC, tk, od, jo, loB, hiB, ki, fa, fb, bf, ch, bs, ps, pb, pp, wS, wT, sB, tL, ip, me, eS, oC, oL, oV, dC, dT, dK, co, cP, cR, sE, eV) ∧ v = (nI n, nI nv, nI na, nI np, nI (nv + na), nI (nv + na + 3 * np), sl, iS, rS, yC, yF, bo, nI c, yD, yA, yT, od, yB, yL, yE, ki, fa, fb, yV, eS, oC, dC, yK, cP, cR, oL, oV, dT, dK) ∧ rl_F n nv na np c sl bo pt iS fc rS od jo loB hiB ki fa fb bf ch bs ps pb pp sB tL ip me oC oL dC yB yL yE
theorem i_up {k : Nat} {u : SX} {v : SY} (h : i_Rel k u v) : i_Rel (k + 5) u v := h
theorem rl_el0 {P : SX → SY → Prop} {u : SX} {v : SY} {x : SX} {y : SY} (hu : u = x) (hv : v = y) (h : P x y) : P u v := by
  subst hu hv; exact h
theorem rl_el {P : SX → SY → Prop} (h : ∀ (n nv na np c : Nat) (sl bo pt iS fc rS cT aC tk yC yF yD yA yT : Int32) (od jo loB hiB ki fa fb bf ch bs ps pb pp wS wT sB tL ip me eS oC oL oV dC dT dK co cP cR sE eV yB yL yE yV yK : Nat → Int32), rl_F n nv na np c sl bo pt iS fc rS od jo loB hiB ki fa fb bf ch bs ps pb pp sB tL ip me oC oL dC yB yL yE → P (nI n, nI nv, nI na, nI np, nI (nv + na), nI (nv + na + 3 * np), sl, bo, nI c, pt, iS, fc, rS, cT, aC, tk, od, jo, loB, hiB, ki, fa, fb, bf, ch, bs, ps, pb, pp, wS, wT, sB, tL, ip, me, eS, oC, oL, oV, dC, dT, dK, co, cP, cR, sE, eV) (nI n, nI nv, nI na, nI np, nI (nv + na), nI (nv + na + 3 * np), sl, iS, rS, yC, yF, bo, nI c, yD, yA, yT, od, yB, yL, yE, ki, fa, fb, yV, eS, oC, dC, yK, cP, cR, oL, oV, dT, dK)) {k : Nat} {u : SX} {v : SY} (I : i_Rel k u v) : P u v :=
  Exists.elim I fun n I =>
  Exists.elim I fun nv I =>
  Exists.elim I fun na I =>
  Exists.elim I fun np I =>
  Exists.elim I fun c I =>
  Exists.elim I fun sl I =>
  Exists.elim I fun bo I =>
  Exists.elim I fun pt I =>
  Exists.elim I fun iS I =>
  Exists.elim I fun fc I =>
  Exists.elim I fun rS I =>
  Exists.elim I fun cT I =>
  Exists.elim I fun aC I =>
  Exists.elim I fun tk I =>
  Exists.elim I fun yC I =>
  Exists.elim I fun yF I =>
  Exists.elim I fun yD I =>
  Exists.elim I fun yA I =>
  Exists.elim I fun yT I =>
  Exists.elim I fun od I =>
  Exists.elim I fun jo I =>
  Exists.elim I fun loB I =>
  Exists.elim I fun hiB I =>
  Exists.elim I fun ki I =>
  Exists.elim I fun fa I =>
  Exists.elim I fun fb I =>
  Exists.elim I fun bf I =>
  Exists.elim I fun ch I =>
  Exists.elim I fun bs I =>
  Exists.elim I fun ps I =>
  Exists.elim I fun pb I =>
  Exists.elim I fun pp I =>
  Exists.elim I fun wS I =>
  Exists.elim I fun wT I =>
  Exists.elim I fun sB I =>
  Exists.elim I fun tL I =>
  Exists.elim I fun ip I =>
  Exists.elim I fun me I =>
  Exists.elim I fun eS I =>
  Exists.elim I fun oC I =>
  Exists.elim I fun oL I =>
  Exists.elim I fun oV I =>
  Exists.elim I fun dC I =>
  Exists.elim I fun dT I =>
  Exists.elim I fun dK I =>
  Exists.elim I fun co I =>
  Exists.elim I fun cP I =>
  Exists.elim I fun cR I =>
  Exists.elim I fun sE I =>
  Exists.elim I fun eV I =>
  Exists.elim I fun yB I =>
  Exists.elim I fun yL I =>
  Exists.elim I fun yE I =>
  Exists.elim I fun yV I =>
  Exists.elim I fun yK I =>
  rl_el0 I.1 I.2.1 (h n nv na np c sl bo pt iS fc rS cT aC tk yC yF yD yA yT od jo loB hiB ki fa fb bf ch bs ps pb pp wS wT sB tL ip me eS oC oL oV dC dT dK co cP cR sE eV yB yL yE yV yK I.2.2)
section
variable {n nv na np c : Nat} {sl bo pt iS fc rS cT aC tk : Int32} {od jo loB hiB ki fa fb bf ch bs ps pb pp wS wT sB tL ip me eS oC oL oV dC dT dK co cP cR sE eV : Nat → Int32} {yC yF yD yA yT : Int32} {yB yL yE yV yK : Nat → Int32}
theorem rl_mk {k : Nat} (h : rl_F n nv na np c sl bo pt iS fc rS od jo loB hiB ki fa fb bf ch bs ps pb pp sB tL ip me oC oL dC yB yL yE) : i_Rel k (nI n, nI nv, nI na, nI np, nI (nv + na), nI (nv + na + 3 * np), sl, bo, nI c, pt, iS, fc, rS, cT, aC, tk, od, jo, loB, hiB, ki, fa, fb, bf, ch, bs, ps, pb, pp, wS, wT, sB, tL, ip, me, eS, oC, oL, oV, dC, dT, dK, co, cP, cR, sE, eV) (nI n, nI nv, nI na, nI np, nI (nv + na), nI (nv + na + 3 * np), sl, iS, rS, yC, yF, bo, nI c, yD, yA, yT, od, yB, yL, yE, ki, fa, fb, yV, eS, oC, dC, yK, cP, cR, oL, oV, dT, dK) :=
  ⟨n, nv, na, np, c, sl, bo, pt, iS, fc, rS, cT, aC, tk, yC, yF, yD, yA, yT, od, jo, loB, hiB, ki, fa, fb, bf, ch, bs, ps, pb, pp, wS, wT, sB, tL, ip, me, eS, oC, oL, oV, dC, dT, dK, co, cP, cR, sE, eV, yB, yL, yE, yV, yK, rfl, rfl, h⟩
end
end
section
/-! the constructors -/
def in_cl (x : Int32) (lo hi : Nat) : Nat := if nI lo ≤ x then (if x ≤ nI hi then x.toNatClampNeg else hi) else lo
theorem in_clb {x : Int32} {lo hi : Nat} (h : lo ≤ hi) (hh : hi < 2 ^ 31) : lo ≤ in_cl x lo hi ∧ in_cl x lo hi ≤ hi ∧ ((nI lo ≤ x ∧ x ≤ nI hi) → nI (in_cl x lo hi) = x) := by
  unfold in_cl
  by_cases h1 : nI lo ≤ x
  · rw [if_pos h1]
    by_cases h2 : x ≤ nI hi
    · rw [if_pos h2]
      have h0 : ¬ x < 0 := by
        intro w
        rw [Int32.lt_iff_toInt_lt] at w
        rw [Int32.le_iff_toInt_le, nI_toInt (by omega)] at h1
        have : (0 : Int32).toInt = 0 := by decide
        omega
      obtain ⟨j, hj, rfl⟩ := nI_of h0
      rw [nI_clamp hj]
      rw [nI_leI (by omega) hj] at h1
      rw [nI_leI hj hh] at h2
      exact ⟨h1, h2, fun _ => rfl⟩
    · rw [if_neg h2]
      exact ⟨h, Nat.le_refl _, fun w => absurd w.2 h2⟩
  · rw [if_neg h1]
    exact ⟨Nat.le_refl _, h, fun w => absurd w.1 h1⟩
theorem xw_clamp {u : SX} {x p q : Int32} {lo hi : Nat} (h : lo ≤ hi) (hh : hi < 2 ^ 31) (hp : p = nI lo) (hq : q = nI hi) {post : Int32 → Prop} (hpo : post (nI (in_cl x lo hi))) : wpX_clamp post u x p q := by
  subst hp hq
  unfold wpX_clamp
  obtain ⟨a, b, e⟩ := in_clb (x := x) h hh
  by_cases h1 : nI lo ≤ x
  · by_cases h2 : x ≤ nI hi
    · rw [e ⟨h1, h2⟩] at hpo
      exact br_t h1 (br_t h2 hpo)
    · unfold in_cl at hpo
      rw [if_pos h1, if_neg h2] at hpo
      exact br_t h1 (br_f h2 hpo)
  · unfold in_cl at hpo
    rw [if_neg h1] at hpo
    exact br_f h1 hpo
theorem yw_clamp {u : SY} {x p q : Int32} {lo hi : Nat} (h : lo ≤ hi) (hh : hi < 2 ^ 31) (hp : p = nI lo) (hq : q = nI hi) {post : Int32 → Prop} (hpo : post (nI (in_cl x lo hi))) : wpY_clamp post u x p q := by
  subst hp hq
  unfold wpY_clamp
  obtain ⟨a, b, e⟩ := in_clb (x := x) h hh
  by_cases h1 : nI lo ≤ x
  · by_cases h2 : x ≤ nI hi
    · rw [e ⟨h1, h2⟩] at hpo
      exact br_t h1 (br_t h2 hpo)
    · unfold in_cl at hpo
      rw [if_pos h1, if_neg h2] at hpo
      exact br_t h1 (br_f h2 hpo)
  · unfold in_cl at hpo
    rw [if_neg h1] at hpo
    exact br_f h1 hpo
def in_od (k : Nat) : Nat → Int32 := fun i => if i % 9 = 0 ∧ i / 9 < k then 1 else 0
theorem in_odS (k : Nat) : upd (in_od k) (k * 8 + k) 1 = in_od (k + 1) := by
  funext i
  unfold upd in_od
  by_cases e : i = k * 8 + k
  · rw [if_pos e, if_pos (by omega)]
  · rw [if_neg e]
    by_cases e2 : i % 9 = 0 ∧ i / 9 < k
    · rw [if_pos e2, if_pos (by omega)]
    · rw [if_neg e2, if_neg (by omega)]
theorem in_od0 : in_od 0 = fun _ => 0 := by
  funext i; unfold in_od; rw [if_neg (by omega)]
theorem in_odle {x y : Nat} (hx : x < 8) (hy : y < 8) : od_le (in_od 8) x y ↔ x = y := by
  unfold od_le in_od
  by_cases e : (x * 8 + y) % 9 = 0 ∧ (x * 8 + y) / 9 < 8
  · rw [if_pos e]; exact ⟨fun _ => by omega, fun _ => by decide⟩
  · rw [if_neg e]; exact ⟨fun w => absurd rfl w, fun w => absurd (by omega) e⟩
theorem in_odP {n : Nat} (hn : n ≤ 8) : od_b (in_od 8) ∧ od_P (in_od 8) n := by
  refine ⟨fun i => ?_, fun x hx => (in_odle hx hx).mpr rfl, fun x y z hx hy hz h1 h2 => ?_, fun x y hx hy h1 _ => (in_odle (by omega) (by omega)).mp h1⟩
  · unfold in_od; split
    · exact Or.inr rfl
    · exact Or.inl rfl
  · rw [in_odle (by omega) (by omega)] at h1 h2 ⊢
    omega
section
variable {n nv na np c : Nat} {sl bo pt iS fc rS cT aC tk : Int32} {od jo loB hiB ki fa fb bf ch bs ps pb pp wS wT sB tL ip me eS oC oL oV dC dT dK co cP cR sE eV : Nat → Int32}
theorem xw_in333 {post : SX → Prop} (hnp : np ≤ 3) (hp : ∀ ps pb pp, px_S (kn ki) np 0 (np + 1) ps pb pp → post (nI n, nI nv, nI na, nI np, nI (nv + na), nI (nv + na + 3 * np), sl, bo, nI c, nI (np + 1), iS, fc, rS, cT, aC, tk, in_od 8, jo, loB, hiB, ki, fa, fb, bf, ch, bs, ps, pb, pp, wS, wT, sB, tL, ip, me, eS, oC, oL, oV, dC, dT, dK, co, cP, cR, sE, eV)) :
    ∀ f i m, i + f = 8 → f < m → wX_init_333 post (nI n) (nI nv) (nI na) (nI np) (nI (nv + na)) (nI (nv + na + 3 * np)) sl bo (nI c) pt iS fc rS cT aC tk m (nI i) (in_od i) jo loB hiB ki fa fb bf ch bs ps pb pp wS wT sB tL ip me eS oC oL oV dC dT dK co cP cR sE eV := by
  intro f
  induction f with
  | zero =>
    intro i m hf hm
    obtain ⟨m, rfl⟩ : ∃ e, m = e + 1 := ⟨m - 1, by omega⟩
    have e : i = 8 := by omega
    subst e
    refine br_t (by decide) ?_
    exact xw_reset (kd := kn ki) hnp hp
  | succ f ih =>
    intro i m hf hm
    obtain ⟨m, rfl⟩ : ∃ e, m = e + 1 := ⟨m - 1, by omega⟩
    refine br_f (nI_ge (b := 8) (by omega) (by decide)) ?_
    rw [bz_i8, nI_clamp (n := i * 8 + i) (by omega), bz_nar1, in_odS, nI_1]
    exact And.intro (vp_in_nI (by omega) (by decide)) (nm_e (nm_e (ih (i + 1) m (by omega) (by omega))))
end
section
variable {n nv na np c : Nat} {sl iS rS yC yF bo yD yA yT : Int32} {od yB yL yE ki fa fb yV eS oC dC yK cP cR oL oV dT dK : Nat → Int32}
theorem yw_in226 {post : SY → Prop} (hp : post (nI n, nI nv, nI na, nI np, nI (nv + na), nI (nv + na + 3 * np), sl, iS, rS, yC, yF, bo, nI c, yD, yA, yT, in_od 8, yB, yL, yE, ki, fa, fb, yV, eS, oC, dC, yK, cP, cR, oL, oV, dT, dK)) :
    ∀ f i m, i + f = 8 → f < m → wY_init_226 post (nI n) (nI nv) (nI na) (nI np) (nI (nv + na)) (nI (nv + na + 3 * np)) sl iS rS yC yF bo (nI c) yD yA yT m (nI i) (in_od i) yB yL yE ki fa fb yV eS oC dC yK cP cR oL oV dT dK := by
  intro f
  induction f with
  | zero =>
    intro i m hf hm
    obtain ⟨m, rfl⟩ : ∃ e, m = e + 1 := ⟨m - 1, by omega⟩
    have e : i = 8 := by omega
    subst e
    exact br_t (by decide) hp
  | succ f ih =>
    intro i m hf hm
    obtain ⟨m, rfl⟩ : ∃ e, m = e + 1 := ⟨m - 1, by omega⟩
    refine br_f (nI_ge (b := 8) (by omega) (by decide)) ?_
    rw [bz_i8, nI_clamp (n := i * 8 + i) (by omega), bz_nar1, in_odS, nI_1]
    exact And.intro (vp_in_nI (by omega) (by decide)) (nm_e (nm_e (ih (i + 1) m (by omega) (by omega))))
end
theorem i_vc0 (k0 : Int32) (k1 : Int32) (k2 : Int32) (k3 : Int32) : wpX_init (fun u => wpY_init (fun v => i_Rel 4 u v) k0 k1 k2 k3) k0 k1 k2 k3 := by
  obtain ⟨a1, a2, _⟩ := in_clb (x := k0) (lo := 1) (hi := 8) (by decide) (by decide)
  obtain ⟨b1, b2, _⟩ := in_clb (x := k1) (lo := 1) (hi := 8) (by decide) (by decide)
  obtain ⟨c1, c2, _⟩ := in_clb (x := k2) (lo := 0) (hi := 4) (by decide) (by decide)
  obtain ⟨d1, d2, _⟩ := in_clb (x := k3) (lo := 0) (hi := 3) (by decide) (by decide)
  unfold wpX_init
  refine xw_clamp (lo := 1) (hi := 8) (by decide) (by decide) rfl rfl ?_
  refine xw_clamp (lo := 1) (hi := 8) (by decide) (by decide) rfl rfl ?_
  refine xw_clamp (lo := 0) (hi := 4) (by decide) (by decide) rfl rfl ?_
  refine xw_clamp (lo := 0) (hi := 3) (by decide) (by decide) rfl rfl ?_
  obtain ⟨n, en⟩ : ∃ n, n = in_cl k0 1 8 := ⟨_, rfl⟩
  obtain ⟨nv, env⟩ : ∃ n, n = in_cl k1 1 8 := ⟨_, rfl⟩
  obtain ⟨na, ena⟩ : ∃ n, n = in_cl k2 0 4 := ⟨_, rfl⟩
  obtain ⟨np, enp⟩ : ∃ n, n = in_cl k3 0 3 := ⟨_, rfl⟩
  rw [← en] at a1 a2 ⊢
  rw [← env] at b1 b2 ⊢
  rw [← ena] at c1 c2 ⊢
  rw [← enp] at d1 d2 ⊢
  refine nm_r (nI_add _ _) ?_
  refine nm_r (e' := nI (nv + na + 3 * np)) (by rw [bz_3, nI_add]) ?_
  refine ⟨9, ?_⟩
  have q := xw_in333 (n := n) (nv := nv) (na := na) (np := np) (c := 0) (pt := 0) (sl := 0) (bo := 0) (iS := 0) (fc := 0) (rS := 0) (cT := 0) (aC := 0) (tk := 0) (jo := fun _ => 0) (loB := fun _ => 0) (hiB := fun _ => 0) (ki := fun _ => 0) (fa := fun _ => 0) (fb := fun _ => 0) (bf := fun _ => 0) (ch := fun _ => 0) (bs := fun _ => 0) (wS := fun _ => 0) (wT := fun _ => 0) (sB := fun _ => 0) (tL := fun _ => 0) (ip := fun _ => 0) (me := fun _ => 0) (eS := fun _ => 0) (oC := fun _ => 0) (oL := fun _ => 0) (oV := fun _ => 0) (dC := fun _ => 0) (dT := fun _ => 0) (dK := fun _ => 0) (co := fun _ => 0) (cP := fun _ => 0) (cR := fun _ => 0) (sE := fun _ => 0) (eV := fun _ => 0) (ps := fun _ => 0) (pb := fun _ => 0) (pp := fun _ => 0) (post := fun u => wpY_init (fun v => i_Rel 4 u v) k0 k1 k2 k3) d2 (fun ps pb pp hS => ?_) 8 0 9 (by decide) (by decide)
  · rw [in_od0] at q
    exact q
  unfold wpY_init
  refine yw_clamp (lo := 1) (hi := 8) (by decide) (by decide) rfl rfl ?_
  refine yw_clamp (lo := 1) (hi := 8) (by decide) (by decide) rfl rfl ?_
  refine yw_clamp (lo := 0) (hi := 4) (by decide) (by decide) rfl rfl ?_
  refine yw_clamp (lo := 0) (hi := 3) (by decide) (by decide) rfl rfl ?_
  rw [← en, ← env, ← ena, ← enp]
  refine nm_r (nI_add _ _) ?_
  refine nm_r (e' := nI (nv + na + 3 * np)) (by rw [bz_3, nI_add]) ?_
  refine ⟨9, ?_⟩
  have r := yw_in226 (n := n) (nv := nv) (na := na) (np := np) (c := 0) (sl := 0) (iS := 0) (rS := 0) (yC := 0) (yF := 0) (bo := 0) (yD := 0) (yA := 0) (yT := 0) (yB := fun _ => 0) (yL := fun _ => 0) (yE := fun _ => 0) (ki := fun _ => 0) (fa := fun _ => 0) (fb := fun _ => 0) (yV := fun _ => 0) (eS := fun _ => 0) (oC := fun _ => 0) (dC := fun _ => 0) (yK := fun _ => 0) (cP := fun _ => 0) (cR := fun _ => 0) (oL := fun _ => 0) (oV := fun _ => 0) (dT := fun _ => 0) (dK := fun _ => 0) (post := fun v => i_Rel 4 (nI n, nI nv, nI na, nI np, nI (nv + na), nI (nv + na + 3 * np), 0, 0, 0, nI (np + 1), 0, 0, 0, 0, 0, 0, in_od 8, fun _ => 0, fun _ => 0, fun _ => 0, fun _ => 0, fun _ => 0, fun _ => 0, fun _ => 0, fun _ => 0, fun _ => 0, ps, pb, pp, fun _ => 0, fun _ => 0, fun _ => 0, fun _ => 0, fun _ => 0, fun _ => 0, fun _ => 0, fun _ => 0, fun _ => 0, fun _ => 0, fun _ => 0, fun _ => 0, fun _ => 0, fun _ => 0, fun _ => 0, fun _ => 0, fun _ => 0, fun _ => 0) v) ?_ 8 0 9 (by decide) (by decide)
  · rw [in_od0] at r
    exact r
  refine rl_mk (k := 4) (n := n) (nv := nv) (na := na) (np := np) (c := 0) (pt := nI (np + 1)) (od := in_od 8) (ps := ps) (pb := pb) (pp := pp) (sl := 0) (bo := 0) (iS := 0) (fc := 0) (rS := 0) (cT := 0) (aC := 0) (tk := 0) (yC := 0) (yF := 0) (yD := 0) (yA := 0) (yT := 0) (jo := fun _ => 0) (loB := fun _ => 0) (hiB := fun _ => 0) (ki := fun _ => 0) (fa := fun _ => 0) (fb := fun _ => 0) (bf := fun _ => 0) (ch := fun _ => 0) (bs := fun _ => 0) (wS := fun _ => 0) (wT := fun _ => 0) (sB := fun _ => 0) (tL := fun _ => 0) (ip := fun _ => 0) (me := fun _ => 0) (eS := fun _ => 0) (oC := fun _ => 0) (oL := fun _ => 0) (oV := fun _ => 0) (dC := fun _ => 0) (dT := fun _ => 0) (dK := fun _ => 0) (co := fun _ => 0) (cP := fun _ => 0) (cR := fun _ => 0) (sE := fun _ => 0) (eV := fun _ => 0) (yB := fun _ => 0) (yL := fun _ => 0) (yE := fun _ => 0) (yV := fun _ => 0) (yK := fun _ => 0) ?_
  have gz : ∀ k, (fun _ => 0 : Nat → Int32) = gl k (fun _ => 0) (fun _ => 0) := by
    intro k; funext i; unfold gl; split <;> rfl
  refine ⟨⟨a1, a2, b1, b2, c2, d2, by omega⟩, in_odP a2, ⟨Or.inl rfl, fun _ => ⟨rfl, rfl, rfl⟩⟩, fun w => absurd rfl w, ?_, ⟨gz 32, gz 96⟩, Or.inl rfl, Or.inl rfl⟩
  exact ⟨fun i hi => absurd hi (Nat.not_lt_zero _), fun i hi => absurd hi (Nat.not_lt_zero _), fun i hi => absurd hi (Nat.not_lt_zero _), fun i hi => absurd hi (Nat.not_lt_zero _), fun i hi => absurd hi (Nat.not_lt_zero _), fun i hi => absurd hi (Nat.not_lt_zero _), rfl, hS, fun i hi => absurd hi (Nat.not_lt_zero _), fun j m p hp => absurd hp (Nat.not_lt_zero _), fun i hi => absurd hi (Nat.not_lt_zero _)⟩
end
section
/-! owed: tokens, token, awaits, put, cut -/
theorem i_vc_tokens {k : Nat} {u : SX} {v : SY} (I : i_Rel k u v) (hk : k + 5 ≤ 2564) : wpX_tokens (fun r => wpY_tokens (fun r' => r' = r ∧ i_Rel (k + 5) u v) v) u := by
  refine rl_el (P := fun u v => wpX_tokens (fun r => wpY_tokens (fun r' => r' = r ∧ i_Rel (k + 5) u v) v) u) ?_ I
  intro n nv na np c sl bo pt iS fc rS cT aC tk yC yF yD yA yT od jo loB hiB ki fa fb bf ch bs ps pb pp wS wT sB tL ip me eS oC oL oV dC dT dK co cP cR sE eV yB yL yE yV yK R
  obtain ⟨hsz, hod, hsl, hlat, hpg, hgl, hinf, hrun⟩ := R
  have hsz' := hsz
  obtain ⟨hn1, hn, hnv1, hnv, hna, hnp, hc⟩ := hsz'
  exact And.intro rfl (rl_mk ⟨hsz, hod, hsl, hlat, hpg, hgl, hinf, hrun⟩)
theorem i_vc_token {k : Nat} {u : SX} {v : SY} (I : i_Rel k u v) (hk : k + 5 ≤ 2564) (v1 : Int32) (v2 : Int32) : wpX_token (fun r => wpY_token (fun r' => r' = r ∧ i_Rel (k + 5) u v) v v1 v2) u v1 v2 := by
  refine rl_el (P := fun u v => wpX_token (fun r => wpY_token (fun r' => r' = r ∧ i_Rel (k + 5) u v) v v1 v2) u v1 v2) ?_ I
  intro n nv na np c sl bo pt iS fc rS cT aC tk yC yF yD yA yT od jo loB hiB ki fa fb bf ch bs ps pb pp wS wT sB tL ip me eS oC oL oV dC dT dK co cP cR sE eV yB yL yE yV yK R
  obtain ⟨hsz, hod, hsl, hlat, hpg, hgl, hinf, hrun⟩ := R
  have hsz' := hsz
  obtain ⟨hn1, hn, hnv1, hnv, hna, hnp, hc⟩ := hsz'
  have fin : i_Rel (k + 5) (nI n, nI nv, nI na, nI np, nI (nv + na), nI (nv + na + 3 * np), sl, bo, nI c, pt, iS, fc, rS, cT, aC, tk, od, jo, loB, hiB, ki, fa, fb, bf, ch, bs, ps, pb, pp, wS, wT, sB, tL, ip, me, eS, oC, oL, oV, dC, dT, dK, co, cP, cR, sE, eV) (nI n, nI nv, nI na, nI np, nI (nv + na), nI (nv + na + 3 * np), sl, iS, rS, yC, yF, bo, nI c, yD, yA, yT, od, yB, yL, yE, ki, fa, fb, yV, eS, oC, dC, yK, cP, cR, oL, oV, dT, dK) := rl_mk ⟨hsz, hod, hsl, hlat, hpg, hgl, hinf, hrun⟩
  unfold wpX_token wpY_token
  dsimp only
  refine xw_in v1 (k := c) (by omega) (fun j hj ej => br_f (by decide) ?_) (fun z => br_t rfl ?_) rfl
  · subst ej
    have iv : vp_in (nI j) 64 := vp_in_nI (by omega) (by decide)
    have Y1 : ∀ x, wpY_in (fun r_37 => ((r_37 = 0 → ((-1 : Int32) = x ∧ i_Rel (k + 5) (nI n, nI nv, nI na, nI np, nI (nv + na), nI (nv + na + 3 * np), sl, bo, nI c, pt, iS, fc, rS, cT, aC, tk, od, jo, loB, hiB, ki, fa, fb, bf, ch, bs, ps, pb, pp, wS, wT, sB, tL, ip, me, eS, oC, oL, oV, dC, dT, dK, co, cP, cR, sE, eV) (nI n, nI nv, nI na, nI np, nI (nv + na), nI (nv + na + 3 * np), sl, iS, rS, yC, yF, bo, nI c, yD, yA, yT, od, yB, yL, yE, ki, fa, fb, yV, eS, oC, dC, yK, cP, cR, oL, oV, dT, dK))) ∧ (¬ r_37 = 0 → ((v2 = 0 → (vp_in (nI j) 64 ∧ (ki (nI j).toNatClampNeg = x ∧ i_Rel (k + 5) (nI n, nI nv, nI na, nI np, nI (nv + na), nI (nv + na + 3 * np), sl, bo, nI c, pt, iS, fc, rS, cT, aC, tk, od, jo, loB, hiB, ki, fa, fb, bf, ch, bs, ps, pb, pp, wS, wT, sB, tL, ip, me, eS, oC, oL, oV, dC, dT, dK, co, cP, cR, sE, eV) (nI n, nI nv, nI na, nI np, nI (nv + na), nI (nv + na + 3 * np), sl, iS, rS, yC, yF, bo, nI c, yD, yA, yT, od, yB, yL, yE, ki, fa, fb, yV, eS, oC, dC, yK, cP, cR, oL, oV, dT, dK)))) ∧ (¬ v2 = 0 → ((v2 = 1 → (vp_in (nI j) 64 ∧ (fa (nI j).toNatClampNeg = x ∧ i_Rel (k + 5) (nI n, nI nv, nI na, nI np, nI (nv + na), nI (nv + na + 3 * np), sl, bo, nI c, pt, iS, fc, rS, cT, aC, tk, od, jo, loB, hiB, ki, fa, fb, bf, ch, bs, ps, pb, pp, wS, wT, sB, tL, ip, me, eS, oC, oL, oV, dC, dT, dK, co, cP, cR, sE, eV) (nI n, nI nv, nI na, nI np, nI (nv + na), nI (nv + na + 3 * np), sl, iS, rS, yC, yF, bo, nI c, yD, yA, yT, od, yB, yL, yE, ki, fa, fb, yV, eS, oC, dC, yK, cP, cR, oL, oV, dT, dK)))) ∧ (¬ v2 = 1 → (vp_in (nI j) 64 ∧ (fb (nI j).toNatClampNeg = x ∧ i_Rel (k + 5) (nI n, nI nv, nI na, nI np, nI (nv + na), nI (nv + na + 3 * np), sl, bo, nI c, pt, iS, fc, rS, cT, aC, tk, od, jo, loB, hiB, ki, fa, fb, bf, ch, bs, ps, pb, pp, wS, wT, sB, tL, ip, me, eS, oC, oL, oV, dC, dT, dK, co, cP, cR, sE, eV) (nI n, nI nv, nI na, nI np, nI (nv + na), nI (nv + na + 3 * np), sl, iS, rS, yC, yF, bo, nI c, yD, yA, yT, od, yB, yL, yE, ki, fa, fb, yV, eS, oC, dC, yK, cP, cR, oL, oV, dT, dK)))))))))) (nI n, nI nv, nI na, nI np, nI (nv + na), nI (nv + na + 3 * np), sl, iS, rS, yC, yF, bo, nI c, yD, yA, yT, od, yB, yL, yE, ki, fa, fb, yV, eS, oC, dC, yK, cP, cR, oL, oV, dT, dK) v2 3 → wpY_in (fun r_1 => ((r_1 = 0 → ((-1 : Int32) = x ∧ i_Rel (k + 5) (nI n, nI nv, nI na, nI np, nI (nv + na), nI (nv + na + 3 * np), sl, bo, nI c, pt, iS, fc, rS, cT, aC, tk, od, jo, loB, hiB, ki, fa, fb, bf, ch, bs, ps, pb, pp, wS, wT, sB, tL, ip, me, eS, oC, oL, oV, dC, dT, dK, co, cP, cR, sE, eV) (nI n, nI nv, nI na, nI np, nI (nv + na), nI (nv + na + 3 * np), sl, iS, rS, yC, yF, bo, nI c, yD, yA, yT, od, yB, yL, yE, ki, fa, fb, yV, eS, oC, dC, yK, cP, cR, oL, oV, dT, dK))) ∧ (¬ r_1 = 0 → wpY_in (fun r_37 => ((r_37 = 0 → ((-1 : Int32) = x ∧ i_Rel (k + 5) (nI n, nI nv, nI na, nI np, nI (nv + na), nI (nv + na + 3 * np), sl, bo, nI c, pt, iS, fc, rS, cT, aC, tk, od, jo, loB, hiB, ki, fa, fb, bf, ch, bs, ps, pb, pp, wS, wT, sB, tL, ip, me, eS, oC, oL, oV, dC, dT, dK, co, cP, cR, sE, eV) (nI n, nI nv, nI na, nI np, nI (nv + na), nI (nv + na + 3 * np), sl, iS, rS, yC, yF, bo, nI c, yD, yA, yT, od, yB, yL, yE, ki, fa, fb, yV, eS, oC, dC, yK, cP, cR, oL, oV, dT, dK))) ∧ (¬ r_37 = 0 → ((v2 = 0 → (vp_in (nI j) 64 ∧ (ki (nI j).toNatClampNeg = x ∧ i_Rel (k + 5) (nI n, nI nv, nI na, nI np, nI (nv + na), nI (nv + na + 3 * np), sl, bo, nI c, pt, iS, fc, rS, cT, aC, tk, od, jo, loB, hiB, ki, fa, fb, bf, ch, bs, ps, pb, pp, wS, wT, sB, tL, ip, me, eS, oC, oL, oV, dC, dT, dK, co, cP, cR, sE, eV) (nI n, nI nv, nI na, nI np, nI (nv + na), nI (nv + na + 3 * np), sl, iS, rS, yC, yF, bo, nI c, yD, yA, yT, od, yB, yL, yE, ki, fa, fb, yV, eS, oC, dC, yK, cP, cR, oL, oV, dT, dK)))) ∧ (¬ v2 = 0 → ((v2 = 1 → (vp_in (nI j) 64 ∧ (fa (nI j).toNatClampNeg = x ∧ i_Rel (k + 5) (nI n, nI nv, nI na, nI np, nI (nv + na), nI (nv + na + 3 * np), sl, bo, nI c, pt, iS, fc, rS, cT, aC, tk, od, jo, loB, hiB, ki, fa, fb, bf, ch, bs, ps, pb, pp, wS, wT, sB, tL, ip, me, eS, oC, oL, oV, dC, dT, dK, co, cP, cR, sE, eV) (nI n, nI nv, nI na, nI np, nI (nv + na), nI (nv + na + 3 * np), sl, iS, rS, yC, yF, bo, nI c, yD, yA, yT, od, yB, yL, yE, ki, fa, fb, yV, eS, oC, dC, yK, cP, cR, oL, oV, dT, dK)))) ∧ (¬ v2 = 1 → (vp_in (nI j) 64 ∧ (fb (nI j).toNatClampNeg = x ∧ i_Rel (k + 5) (nI n, nI nv, nI na, nI np, nI (nv + na), nI (nv + na + 3 * np), sl, bo, nI c, pt, iS, fc, rS, cT, aC, tk, od, jo, loB, hiB, ki, fa, fb, bf, ch, bs, ps, pb, pp, wS, wT, sB, tL, ip, me, eS, oC, oL, oV, dC, dT, dK, co, cP, cR, sE, eV) (nI n, nI nv, nI na, nI np, nI (nv + na), nI (nv + na + 3 * np), sl, iS, rS, yC, yF, bo, nI c, yD, yA, yT, od, yB, yL, yE, ki, fa, fb, yV, eS, oC, dC, yK, cP, cR, oL, oV, dT, dK)))))))))) (nI n, nI nv, nI na, nI np, nI (nv + na), nI (nv + na + 3 * np), sl, iS, rS, yC, yF, bo, nI c, yD, yA, yT, od, yB, yL, yE, ki, fa, fb, yV, eS, oC, dC, yK, cP, cR, oL, oV, dT, dK) v2 3))) (nI n, nI nv, nI na, nI np, nI (nv + na), nI (nv + na + 3 * np), sl, iS, rS, yC, yF, bo, nI c, yD, yA, yT, od, yB, yL, yE, ki, fa, fb, yV, eS, oC, dC, yK, cP, cR, oL, oV, dT, dK) (nI j) (nI c) := by
      intro x h
      exact yw_in (nI j) (k := c) (by omega) (fun _ _ _ => br_f (by decide) h) (fun z => absurd ⟨j, hj, rfl⟩ (bz_nr (by omega) z)) rfl
    by_cases z0 : v2 = 0
    · subst z0
      refine br_t rfl (And.intro iv (Y1 _ ?_))
      exact yw_in 0 (k := 3) (by decide) (fun _ _ _ => br_f (by decide) (br_t rfl ⟨iv, rfl, fin⟩)) (fun z => absurd ⟨0, by decide, rfl⟩ (bz_nr (by decide) z)) rfl
    by_cases z1 : v2 = 1
    · subst z1
      refine br_f z0 (br_t rfl (And.intro iv (Y1 _ ?_)))
      exact yw_in 1 (k := 3) (by decide) (fun _ _ _ => br_f (by decide) (br_f z0 (br_t rfl ⟨iv, rfl, fin⟩))) (fun z => absurd ⟨1, by decide, rfl⟩ (bz_nr (by decide) z)) rfl
    by_cases z2 : v2 = 2
    · subst z2
      refine br_f z0 (br_f z1 (br_t rfl (And.intro iv (Y1 _ ?_))))
      exact yw_in 2 (k := 3) (by decide) (fun _ _ _ => br_f (by decide) (br_f z0 (br_f z1 ⟨iv, rfl, fin⟩))) (fun z => absurd ⟨2, by decide, rfl⟩ (bz_nr (by decide) z)) rfl
    · refine br_f z0 (br_f z1 (br_f z2 (Y1 _ ?_)))
      refine yw_in v2 (k := 3) (by decide) (fun i hi ei => ?_) (fun _ => br_t rfl ⟨rfl, fin⟩) rfl
      have : i = 0 ∨ i = 1 ∨ i = 2 := by omega
      rcases this with w | w | w <;> subst w
      · exact absurd ei z0
      · exact absurd ei z1
      · exact absurd ei z2
  · exact yw_in v1 (k := c) (by omega) (fun j hj ej => absurd ⟨j, hj, ej⟩ (bz_nr (by omega) z)) (fun _ => br_t rfl ⟨rfl, fin⟩) rfl
theorem i_vc_awaits {k : Nat} {u : SX} {v : SY} (I : i_Rel k u v) (hk : k + 5 ≤ 2564) : wpX_awaits (fun r => wpY_awaits (fun r' => r' = r ∧ i_Rel (k + 5) u v) v) u := by
  refine rl_el (P := fun u v => wpX_awaits (fun r => wpY_awaits (fun r' => r' = r ∧ i_Rel (k + 5) u v) v) u) ?_ I
  intro n nv na np c sl bo pt iS fc rS cT aC tk yC yF yD yA yT od jo loB hiB ki fa fb bf ch bs ps pb pp wS wT sB tL ip me eS oC oL oV dC dT dK co cP cR sE eV yB yL yE yV yK R
  obtain ⟨hsz, hod, hsl, hlat, hpg, hgl, hinf, hrun⟩ := R
  have hsz' := hsz
  obtain ⟨hn1, hn, hnv1, hnv, hna, hnp, hc⟩ := hsz'
  have fin : i_Rel (k + 5) (nI n, nI nv, nI na, nI np, nI (nv + na), nI (nv + na + 3 * np), sl, bo, nI c, pt, iS, fc, rS, cT, aC, tk, od, jo, loB, hiB, ki, fa, fb, bf, ch, bs, ps, pb, pp, wS, wT, sB, tL, ip, me, eS, oC, oL, oV, dC, dT, dK, co, cP, cR, sE, eV) (nI n, nI nv, nI na, nI np, nI (nv + na), nI (nv + na + 3 * np), sl, iS, rS, yC, yF, bo, nI c, yD, yA, yT, od, yB, yL, yE, ki, fa, fb, yV, eS, oC, dC, yK, cP, cR, oL, oV, dT, dK) := rl_mk ⟨hsz, hod, hsl, hlat, hpg, hgl, hinf, hrun⟩
  obtain ⟨hG, hkk, hWT, hF, hfa, hfb, hpt, hS, hH⟩ := hpg
  have hB := pg_dpB (kd := kn ki) (np := np) c
  have hb5 := pg_bd_top (kd := kn ki) (np := np) c
  by_cases hs : sl = 0
  · refine br_t hs ?_
    exact yw_awaits hkk hc hnp hG (fun _ => ⟨rfl, fin⟩) (fun w => absurd hs w) (fun w => absurd hs w) (fun w => absurd hs w)
  refine br_f hs ?_
  by_cases hd : pg_dp (kn ki) np c = 0
  · refine br_t (by rw [hpt, hd]; rfl) ?_
    exact yw_awaits hkk hc hnp hG (fun w => absurd w hs) (fun _ _ => ⟨rfl, fin⟩) (fun _ w => by omega) (fun _ w => by omega)
  have hd0 : 0 < pg_dp (kn ki) np c := by omega
  refine br_f (by rw [hpt]; exact nI_ne0 hd0 (by omega)) ?_
  have hG1 : pg_G (kn ki) np (c + 1) := fun i hi => by
    by_cases e : i = c
    · subst e; exact hd0
    · exact hG i (by omega)
  have ht := px_top hG1 hS
  have hbd : pb (pg_dp (kn ki) np c - 1) = nI (pg_bd (kn ki) np c) := by
    rcases ht with ⟨_, _, h, _⟩ | ⟨_, _, _, _, _, _, h, _⟩ <;> exact h
  have hws : (pg_ws (kn ki) np c ∧ ps (pg_dp (kn ki) np c - 1) = 1) ∨ (¬ pg_ws (kn ki) np c ∧ ps (pg_dp (kn ki) np c - 1) = 0) := by
    rcases ht with ⟨hr, h, _⟩ | ⟨j, m, hch, _, _, _, _, h⟩
    · exact Or.inl ⟨Or.inl hr, h⟩
    · rcases h with ⟨z1, z2⟩ | ⟨z1, z2⟩
      · exact Or.inl ⟨Or.inr ⟨j, m, hch, z1⟩, z2⟩
      · refine Or.inr ⟨?_, z2⟩
        rintro (w | ⟨j', m', w1, w2⟩)
        · exact pg_ch_rt hch w
        · obtain ⟨x1, x2⟩ := pg_ch_u hch w1
          subst x1; subst x2; exact z1 w2
  have e1 : pt - 1 = nI (pg_dp (kn ki) np c - 1) := by rw [hpt]; exact bz_s1 hd0
  have iv : vp_in (pt - 1) 256 := by rw [e1]; exact vp_in_nI (by omega) (by decide)
  have e2 : (pt - 1).toNatClampNeg = pg_dp (kn ki) np c - 1 := by rw [e1]; exact nI_clamp (by omega)
  refine And.intro iv ?_
  rw [e2, hbd]
  refine nm_e (And.intro iv ?_)
  rw [show (2 : Int32) = nI 2 from rfl, pk_mul, nI_add, nI_1]
  rcases hws with ⟨w1, w2⟩ | ⟨w1, w2⟩
  · refine br_f (by rw [w2]; decide) ?_
    exact yw_awaits hkk hc hnp hG (fun w => absurd w hs) (fun _ w => by omega) (fun _ _ _ => ⟨rfl, fin⟩) (fun _ _ w => absurd w1 w)
  · refine br_t w2 ?_
    exact yw_awaits hkk hc hnp hG (fun w => absurd w hs) (fun _ w => by omega) (fun _ _ w => absurd w w1) (fun _ _ _ => ⟨rfl, fin⟩)
/-- a token put on: the program's facts -/
theorem rl_put {n nv na np c : Nat} {pt : Int32} {ki fa fb bf ch bs ps pb pp : Nat → Int32} (h : rl_pg n nv na np c pt ki fa fb bf ch bs ps pb pp) (hsz : rl_sz n nv na np c) {kk : Nat} {a b : Int32} (ok : px_ok (kn ki) n nv na np c kk a b) {ps' pb' pp' bf' ch' bs' : Nat → Int32}
    (hS' : px_S (kn (upd ki c (nI kk))) np (c + 1) (pg_dp (kn (upd ki c (nI kk))) np (c + 1)) ps' pb' pp') (hH' : px_H (kn (upd ki c (nI kk))) np (c + 1) bf' ch' bs') :
    rl_pg n nv na np (c + 1) (nI (pg_dp (kn (upd ki c (nI kk))) np (c + 1))) (upd ki c (nI kk)) (upd fa c (px_fa kk a)) (upd fb c (px_fb kk b)) bf' ch' bs' ps' pb' pp' := by
  obtain ⟨hG, hkk, hWT, hF, hfa, hfb, hpt, hS, hH⟩ := h
  obtain ⟨o1, o2, o3, o4, o5, o6⟩ := ok
  obtain ⟨hn1, hn, hnv1, hnv, hna, hnp, hc⟩ := hsz
  have ke : ∀ i, i < c → kn ki i = kn (upd ki c (nI kk)) i := fun i hi => (kn_ne (by omega)).symm
  have kc : kn (upd ki c (nI kk)) c = kk := kn_eq (by omega)
  have hG1 : pg_G (kn ki) np (c + 1) := fun i hi => by
    by_cases e : i = c
    · subst e; exact o1
    · exact hG i (by omega)
  have hG' := pg_G_congr ke hG1
  have fae : ∀ i, i < c → upd fa c (px_fa kk a) i = fa i := fun i hi => pk_un (by omega)
  have fbe : ∀ i, i < c → upd fb c (px_fb kk b) i = fb i := fun i hi => pk_un (by omega)
  have kfa : ∀ i, i < c → kn (upd fa c (px_fa kk a)) i = kn fa i := fun i hi => kn_ne (by omega)
  have kfb : ∀ i, i < c → kn (upd fb c (px_fb kk b)) i = kn fb i := fun i hi => kn_ne (by omega)
  have bdc : pg_bd (kn (upd ki c (nI kk))) np c = pg_bd (kn ki) np c := (pg_bd_congr (fun j hj => ke j hj)).symm
  -- the value of field a at the new token
  have fac : ¬ kk = 9 → px_fa kk a = nI (kn (upd fa c (px_fa kk a)) c) := by
    intro h9
    unfold kn
    rw [pk_us]
    have : ∃ j, j < 2 ^ 31 ∧ px_fa kk a = nI j := by
      unfold px_fa
      by_cases q : kk = 0 ∨ kk = 3 ∨ kk = 4 ∨ kk = 5 ∨ kk = 7 ∨ kk = 12
      · rw [if_pos q]; exact ⟨0, by decide, rfl⟩
      · rw [if_neg q]
        have : (kk = 1 ∨ kk = 10) ∨ (kk = 2 ∨ kk = 11) ∨ kk = 6 ∨ (kk = 8 ∨ kk = 14) ∨ kk = 13 := by omega
        obtain ⟨x1, x2, x3, x4, x5⟩ := o6
        rcases this with w | w | w | w | w
        · obtain ⟨j, hj, e⟩ := x1 w; exact ⟨j, by omega, e⟩
        · obtain ⟨j, hj, e⟩ := x2 w; exact ⟨j, by omega, e⟩
        · obtain ⟨⟨j, hj, e⟩, _⟩ := x3 w; exact ⟨j, by omega, e⟩
        · obtain ⟨j, hj, e⟩ := x4 w; exact ⟨j, by omega, e⟩
        · obtain ⟨j, hj, e⟩ := x5 w; exact ⟨j, by omega, e⟩
    obtain ⟨j, hj, e⟩ := this
    rw [e, nI_clamp hj]
  have fav : ¬ (kk = 0 ∨ kk = 3 ∨ kk = 4 ∨ kk = 5 ∨ kk = 7 ∨ kk = 12) → ∀ M, M ≤ 8 → (∃ j, j < M ∧ a = nI j) → kn (upd fa c (px_fa kk a)) c < M := by
    intro q M hM w
    obtain ⟨j, hj, e⟩ := w
    unfold kn px_fa
    rw [pk_us, if_neg q, e, nI_clamp (by omega)]
    exact hj
  refine ⟨hG', fun i hi => ?_, fun i hi => ?_, fun i hi => ?_, fun i hi h9 => ?_, fun i hi => ?_, rfl, hS', hH'⟩
  · by_cases e : i = c
    · subst e; rw [kc, pk_us]; exact ⟨rfl, o3⟩
    · rw [← ke i (by omega), pk_un e]; exact hkk i (by omega)
  · by_cases e : i = c
    · subst e
      rw [kc]
      refine ⟨fun j m hch => ?_, fun hr => ?_⟩
      · have hch' := pg_ch_congr (kd := kn (upd ki i (nI kk))) (kd' := kn ki) (fun t ht => (ke t ht).symm) hch
        rw [← ke j hch.1, o4]
        constructor
        · rintro (w | ⟨j', m', w1, w2⟩)
          · exact absurd w (fun w => pg_ch_rt hch' w)
          · obtain ⟨x1, x2⟩ := pg_ch_u hch' w1
            subst x1; subst x2; exact w2
        · exact fun w => Or.inr ⟨j, m, hch', w⟩
      · have hr' := pg_rt_congr (kd := kn (upd ki i (nI kk))) (kd' := kn ki) (fun t ht => (ke t ht).symm) hr
        exact o4.mpr (Or.inl hr')
    · obtain ⟨w1, w2⟩ := hWT i (by omega)
      rw [← ke i (by omega)]
      refine ⟨fun j m hch => ?_, fun hr => ?_⟩
      · rw [← ke j (by have := hch.1; omega)]
        exact w1 j m (pg_ch_congr (fun t ht => (ke t (by omega)).symm) hch)
      · exact w2 (pg_rt_congr (fun t ht => (ke t (by omega)).symm) hr)
  · by_cases e : i = c
    · subst e
      rw [kc, bdc]
      obtain ⟨x1, x2, x3, x4, x5⟩ := o6
      refine ⟨o3, fun w => fav (by omega) _ (by omega) (x1 w), fun w => fav (by omega) _ (by omega) (x2 w), fun w => ⟨fav (by omega) _ (by omega) (x3 w).1, ?_⟩, fun w => fav (by omega) _ (by omega) (x4 w), fun w => fav (by omega) _ (by omega) (x5 w), o5⟩
      obtain ⟨j, hj, e⟩ := (x3 w).2
      unfold kn px_fb
      rw [pk_us, if_pos w, e, nI_clamp (by omega)]
      exact hj
    · have := hF i (by omega)
      rw [← ke i (by omega), kfa i (by omega), kfb i (by omega), ← pg_bd_congr (kd := kn ki) (fun j hj => ke j (by omega))]
      exact this
  · by_cases e : i = c
    · subst e
      rw [kc] at h9
      rw [pk_us]; exact fac h9
    · rw [← ke i (by omega)] at h9
      rw [fae i (by omega), kfa i (by omega)]; exact hfa i (by omega) h9
  · by_cases e : i = c
    · subst e
      unfold kn px_fb
      rw [pk_us]
      by_cases q : kk = 6
      · rw [if_pos q]
        obtain ⟨j, hj, e⟩ := (o6.2.2.1 q).2
        rw [e, nI_clamp (by omega)]
      · rw [if_neg q]; rfl
    · rw [fbe i (by omega), kfb i (by omega)]; exact hfb i (by omega)
theorem i_vc_put {k : Nat} {u : SX} {v : SY} (I : i_Rel k u v) (hk : k + 5 ≤ 2564) (v1 : Int32) (v2 : Int32) (v3 : Int32) : wpX_put (fun r u' => wpY_put (fun r' v' => r' = r ∧ i_Rel (k + 5) u' v') v v1 v2 v3) u v1 v2 v3 := by
  refine rl_el (P := fun u v => wpX_put (fun r u' => wpY_put (fun r' v' => r' = r ∧ i_Rel (k + 5) u' v') v v1 v2 v3) u v1 v2 v3) ?_ I
  intro n nv na np c sl bo pt iS fc rS cT aC tk yC yF yD yA yT od jo loB hiB ki fa fb bf ch bs ps pb pp wS wT sB tL ip me eS oC oL oV dC dT dK co cP cR sE eV yB yL yE yV yK R
  obtain ⟨hsz, hod, hsl, hlat, hpg, hgl, hinf, hrun⟩ := R
  have hsz' := hsz
  obtain ⟨hn1, hn, hnv1, hnv, hna, hnp, hc⟩ := hsz'
  have fin : i_Rel (k + 5) (nI n, nI nv, nI na, nI np, nI (nv + na), nI (nv + na + 3 * np), sl, bo, nI c, pt, iS, fc, rS, cT, aC, tk, od, jo, loB, hiB, ki, fa, fb, bf, ch, bs, ps, pb, pp, wS, wT, sB, tL, ip, me, eS, oC, oL, oV, dC, dT, dK, co, cP, cR, sE, eV) (nI n, nI nv, nI na, nI np, nI (nv + na), nI (nv + na + 3 * np), sl, iS, rS, yC, yF, bo, nI c, yD, yA, yT, od, yB, yL, yE, ki, fa, fb, yV, eS, oC, dC, yK, cP, cR, oL, oV, dT, dK) := rl_mk ⟨hsz, hod, hsl, hlat, hpg, hgl, hinf, hrun⟩
  have hpg' := hpg
  obtain ⟨hG, hkk, hWT, hF, hfa, hfb, hpt, hS, hH⟩ := hpg
  subst hpt
  refine xw_put hn hnv hna hnp hG hc hS hH (fun z => ?_) (fun kk hs ek ok ps' pb' pp' bf' ch' bs' hS' hH' => ?_)
  · refine yw_put hn hnv hna hnp hkk hc hG (fun _ => ⟨rfl, fin⟩) (fun kk hs ek ok => ?_)
    rcases z with z | z
    · exact absurd z hs
    · exact absurd ok (z kk ek)
  · refine yw_put hn hnv hna hnp hkk hc hG (fun z => ?_) (fun kk' hs' ek' ok' => ?_)
    · rcases z with z | z
      · exact absurd z hs
      · exact absurd ok (z kk ek)
    · have e : kk = kk' := (nI_eq (by have := ok.2.2.1; omega) (by have := ok'.2.2.1; omega)).mp (by rw [← ek, ← ek'])
      subst e
      have hd := ok.1
      refine ⟨rfl, rl_mk ⟨⟨hn1, hn, hnv1, hnv, hna, hnp, by have := ok.2.1; omega⟩, hod, ⟨hsl.1, fun w => absurd w hs⟩, hlat, rl_put hpg' hsz ok hS' hH', hgl, ?_, ?_⟩⟩
      · rcases hinf with w | ⟨_, _, w, _⟩
        · exact Or.inl w
        · omega
      · rcases hrun with w | ⟨_, _, w, _⟩
        · exact Or.inl w
        · omega
theorem i_vc_cut {k : Nat} {u : SX} {v : SY} (I : i_Rel k u v) (hk : k + 5 ≤ 2564) (v1 : Int32) : wpX_cut (fun r u' => wpY_cut (fun r' v' => r' = r ∧ i_Rel (k + 5) u' v') v v1) u v1 := by
  refine rl_el (P := fun u v => wpX_cut (fun r u' => wpY_cut (fun r' v' => r' = r ∧ i_Rel (k + 5) u' v') v v1) u v1) ?_ I
  intro n nv na np c sl bo pt iS fc rS cT aC tk yC yF yD yA yT od jo loB hiB ki fa fb bf ch bs ps pb pp wS wT sB tL ip me eS oC oL oV dC dT dK co cP cR sE eV yB yL yE yV yK R
  obtain ⟨hsz, hod, hsl, hlat, hpg, hgl, hinf, hrun⟩ := R
  have hsz' := hsz
  obtain ⟨hn1, hn, hnv1, hnv, hna, hnp, hc⟩ := hsz'
  have fin : i_Rel (k + 5) (nI n, nI nv, nI na, nI np, nI (nv + na), nI (nv + na + 3 * np), sl, bo, nI c, pt, iS, fc, rS, cT, aC, tk, od, jo, loB, hiB, ki, fa, fb, bf, ch, bs, ps, pb, pp, wS, wT, sB, tL, ip, me, eS, oC, oL, oV, dC, dT, dK, co, cP, cR, sE, eV) (nI n, nI nv, nI na, nI np, nI (nv + na), nI (nv + na + 3 * np), sl, iS, rS, yC, yF, bo, nI c, yD, yA, yT, od, yB, yL, yE, ki, fa, fb, yV, eS, oC, dC, yK, cP, cR, oL, oV, dT, dK) := rl_mk ⟨hsz, hod, hsl, hlat, hpg, hgl, hinf, hrun⟩
  by_cases hs : sl = 0
  · exact br_t hs (br_t hs ⟨rfl, fin⟩)
  by_cases h0 : 0 ≤ v1
  · by_cases h1 : v1 < nI c
    · obtain ⟨q, hq31, rfl⟩ := nI_of (Int32.not_lt.mpr h0)
      rw [nI_ltI hq31 (by omega)] at h1
      obtain ⟨hG, hkk, hWT, hF, hfa, hfb, hpt, hS, hH⟩ := hpg
      have hG' : pg_G (kn ki) np q := fun i hi => hG i (by omega)
      have hkk' : zz_k ki (kn ki) q := fun i hi => hkk i (by omega)
      refine xw_cut h1 hc hnp hG' hkk' hs (fun ps' pb' pp' bf' ch' bs' hS' hH' => ?_)
      refine br_f hs (br_t h0 (br_t (nI_lt h1 (by omega)) ?_))
      refine ⟨rfl, rl_mk ⟨⟨hn1, hn, hnv1, hnv, hna, hnp, by omega⟩, hod, ⟨hsl.1, fun w => absurd w hs⟩, hlat, ?_, hgl, Or.inl rfl, Or.inl rfl⟩⟩
      exact ⟨hG', hkk', fun i hi => hWT i (by omega), fun i hi => hF i (by omega), fun i hi => hfa i (by omega), fun i hi => hfb i (by omega), rfl, hS', hH'⟩
    · exact br_f hs (br_t h0 (br_f h1 (br_f hs (br_t h0 (br_f h1 ⟨rfl, fin⟩)))))
  · exact br_f hs (br_f h0 (br_f hs (br_f h0 ⟨rfl, fin⟩)))
end
section
/-! owed: below, seal, join, setBound, bound -/
def bl_ok (od : Nat → Int32) (n : Nat) (v1 v2 : Int32) (a b : Nat) : Prop := v1 = nI a ∧ v2 = nI b ∧ a < n ∧ b < n ∧ (a ≠ b → od (b * 8 + a) = 0)
theorem bl_u {od : Nat → Int32} {n a b a' b' : Nat} {v1 v2 : Int32} (hn : n ≤ 8) (h : bl_ok od n v1 v2 a b) (h' : bl_ok od n v1 v2 a' b') : a = a' ∧ b = b' := by
  obtain ⟨x1, x2, x3, x4, x5⟩ := h
  obtain ⟨y1, y2, y3, y4, y5⟩ := h'
  exact ⟨(nI_eq (by omega) (by omega)).mp (by rw [← x1, ← y1]), (nI_eq (by omega) (by omega)).mp (by rw [← x2, ← y2])⟩
section
variable {n nv na np c : Nat} {sl bo pt iS fc rS cT aC tk : Int32} {od jo loB hiB ki fa fb bf ch bs ps pb pp wS wT sB tL ip me eS oC oL oV dC dT dK co cP cR sE eV : Nat → Int32}
theorem xw_below {v1 v2 : Int32} (hn : n ≤ 8) (B : od_b od) {post : Int32 → SX → Prop} (h0 : (¬ sl = 0 ∨ ∀ a b, ¬ bl_ok od n v1 v2 a b) → post (-1) (nI n, nI nv, nI na, nI np, nI (nv + na), nI (nv + na + 3 * np), sl, bo, nI c, pt, iS, fc, rS, cT, aC, tk, od, jo, loB, hiB, ki, fa, fb, bf, ch, bs, ps, pb, pp, wS, wT, sB, tL, ip, me, eS, oC, oL, oV, dC, dT, dK, co, cP, cR, sE, eV)) (h1 : sl = 0 → ∀ a b, bl_ok od n v1 v2 a b → ∀ g, od_N od n a b g → post 1 (nI n, nI nv, nI na, nI np, nI (nv + na), nI (nv + na + 3 * np), sl, bo, nI c, pt, iS, fc, rS, cT, aC, tk, g, jo, loB, hiB, ki, fa, fb, bf, ch, bs, ps, pb, pp, wS, wT, sB, tL, ip, me, eS, oC, oL, oV, dC, dT, dK, co, cP, cR, sE, eV)) : wpX_below post (nI n, nI nv, nI na, nI np, nI (nv + na), nI (nv + na + 3 * np), sl, bo, nI c, pt, iS, fc, rS, cT, aC, tk, od, jo, loB, hiB, ki, fa, fb, bf, ch, bs, ps, pb, pp, wS, wT, sB, tL, ip, me, eS, oC, oL, oV, dC, dT, dK, co, cP, cR, sE, eV) v1 v2 := by
  by_cases hs : sl = 0
  · refine br_t hs ?_
    refine xw_in v1 (k := n) (by omega) (fun a ha ea => br_f (by decide) ?_) (fun z => br_t rfl (h0 (Or.inr (fun a b w => bz_nr (by omega) z ⟨a, w.2.2.1, w.1⟩)))) rfl
    refine xw_in v2 (k := n) (by omega) (fun b hb eb => br_f (by decide) ?_) (fun z => br_t rfl (h0 (Or.inr (fun a b w => bz_nr (by omega) z ⟨b, w.2.2.2.1, w.2.1⟩)))) rfl
    subst ea eb
    have go : (a ≠ b → od (b * 8 + a) = 0) → ∃ n56 : Nat, wX_below_56 post (nI a) (nI b) (nI n) (nI nv) (nI na) (nI np) (nI (nv + na)) (nI (nv + na + 3 * np)) sl bo (nI c) pt iS fc rS cT aC tk n56 0 od jo loB hiB ki fa fb bf ch bs ps pb pp wS wT sB tL ip me eS oC oL oV dC dT dK co cP cR sE eV := by
      intro w
      refine ⟨9, xw_bl56 (o0 := od) hn ha hb (h1 hs a b ⟨rfl, rfl, ha, hb, w⟩) n 0 9 od (by omega) (by omega) ⟨B, fun i => ⟨Or.inl, fun w => w.elim id (fun w => by omega)⟩⟩⟩
    refine pk_eq a b (fun e => go (fun w => absurd e w)) (fun e => ?_) rfl rfl (by omega) (by omega)
    rw [bz_i8, nI_clamp (n := b * 8 + a) (by omega)]
    refine And.intro (vp_in_nI (by omega) (by decide)) (br_c (fun w => go (fun _ => w)) (fun w => h0 (Or.inr (fun a' b' z => ?_))))
    have x1 := (nI_eq (by omega) (by have := z.2.2.1; omega)).mp z.1
    have x2 := (nI_eq (by omega) (by have := z.2.2.2.1; omega)).mp z.2.1
    subst x1; subst x2
    exact w (z.2.2.2.2 e)
  · exact br_f hs (h0 (Or.inl hs))
end
section
variable {n nv na np c : Nat} {sl iS rS yC yF bo yD yA yT : Int32} {od yB yL yE ki fa fb yV eS oC dC yK cP cR oL oV dT dK : Nat → Int32}
theorem yw_below {v1 v2 : Int32} (hn : n ≤ 8) (B : od_b od) (P : od_P od n) {post : Int32 → SY → Prop} (h0 : (¬ sl = 0 ∨ ∀ a b, ¬ bl_ok od n v1 v2 a b) → post (-1) (nI n, nI nv, nI na, nI np, nI (nv + na), nI (nv + na + 3 * np), sl, iS, rS, yC, yF, bo, nI c, yD, yA, yT, od, yB, yL, yE, ki, fa, fb, yV, eS, oC, dC, yK, cP, cR, oL, oV, dT, dK)) (h1 : sl = 0 → ∀ a b, bl_ok od n v1 v2 a b → ∀ g, od_N od n a b g → post 1 (nI n, nI nv, nI na, nI np, nI (nv + na), nI (nv + na + 3 * np), sl, iS, rS, yC, yF, bo, nI c, yD, yA, yT, g, yB, yL, yE, ki, fa, fb, yV, eS, oC, dC, yK, cP, cR, oL, oV, dT, dK)) : wpY_below post (nI n, nI nv, nI na, nI np, nI (nv + na), nI (nv + na + 3 * np), sl, iS, rS, yC, yF, bo, nI c, yD, yA, yT, od, yB, yL, yE, ki, fa, fb, yV, eS, oC, dC, yK, cP, cR, oL, oV, dT, dK) v1 v2 := by
  by_cases hs : sl = 0
  · refine br_t hs ?_
    refine yw_in v1 (k := n) (by omega) (fun a ha ea => br_f (by decide) ?_) (fun z => br_t rfl (h0 (Or.inr (fun a b w => bz_nr (by omega) z ⟨a, w.2.2.1, w.1⟩)))) rfl
    refine yw_in v2 (k := n) (by omega) (fun b hb eb => br_f (by decide) ?_) (fun z => br_t rfl (h0 (Or.inr (fun a b w => bz_nr (by omega) z ⟨b, w.2.2.2.1, w.2.1⟩)))) rfl
    subst ea eb
    have go : (a ≠ b → od (b * 8 + a) = 0) → wY_below_52 post (nI a) (nI b) (nI n) (nI nv) (nI na) (nI np) (nI (nv + na)) (nI (nv + na + 3 * np)) sl iS rS yC yF bo (nI c) yD yA yT od yB yL yE ki fa fb yV eS oC dC yK cP cR oL oV dT dK := fun w => yw_bl52 hn ha hb B P (h1 hs a b ⟨rfl, rfl, ha, hb, w⟩)
    refine pk_eq a b (fun e => go (fun w => absurd e w)) (fun e => ?_) rfl rfl (by omega) (by omega)
    rw [bz_i8, nI_clamp (n := b * 8 + a) (by omega)]
    refine And.intro (vp_in_nI (by omega) (by decide)) (br_c (fun w => go (fun _ => w)) (fun w => h0 (Or.inr (fun a' b' z => ?_))))
    have x1 := (nI_eq (by omega) (by have := z.2.2.1; omega)).mp z.1
    have x2 := (nI_eq (by omega) (by have := z.2.2.2.1; omega)).mp z.2.1
    subst x1; subst x2
    exact w (z.2.2.2.2 e)
  · exact br_f hs (h0 (Or.inl hs))
end
theorem i_vc_below {k : Nat} {u : SX} {v : SY} (I : i_Rel k u v) (hk : k + 5 ≤ 2564) (v1 : Int32) (v2 : Int32) : wpX_below (fun r u' => wpY_below (fun r' v' => r' = r ∧ i_Rel (k + 5) u' v') v v1 v2) u v1 v2 := by
  refine rl_el (P := fun u v => wpX_below (fun r u' => wpY_below (fun r' v' => r' = r ∧ i_Rel (k + 5) u' v') v v1 v2) u v1 v2) ?_ I
  intro n nv na np c sl bo pt iS fc rS cT aC tk yC yF yD yA yT od jo loB hiB ki fa fb bf ch bs ps pb pp wS wT sB tL ip me eS oC oL oV dC dT dK co cP cR sE eV yB yL yE yV yK R
  obtain ⟨hsz, hod, hsl, hlat, hpg, hgl, hinf, hrun⟩ := R
  have hsz' := hsz
  obtain ⟨hn1, hn, hnv1, hnv, hna, hnp, hc⟩ := hsz'
  have fin : i_Rel (k + 5) (nI n, nI nv, nI na, nI np, nI (nv + na), nI (nv + na + 3 * np), sl, bo, nI c, pt, iS, fc, rS, cT, aC, tk, od, jo, loB, hiB, ki, fa, fb, bf, ch, bs, ps, pb, pp, wS, wT, sB, tL, ip, me, eS, oC, oL, oV, dC, dT, dK, co, cP, cR, sE, eV) (nI n, nI nv, nI na, nI np, nI (nv + na), nI (nv + na + 3 * np), sl, iS, rS, yC, yF, bo, nI c, yD, yA, yT, od, yB, yL, yE, ki, fa, fb, yV, eS, oC, dC, yK, cP, cR, oL, oV, dT, dK) := rl_mk ⟨hsz, hod, hsl, hlat, hpg, hgl, hinf, hrun⟩
  refine xw_below hn hod.1 (fun z => ?_) (fun hs a b ok g hg => ?_)
  · refine yw_below hn hod.1 hod.2 (fun _ => ⟨rfl, fin⟩) (fun hs a b ok g hg => ?_)
    rcases z with z | z
    · exact absurd hs z
    · exact absurd ok (z a b)
  · refine yw_below hn hod.1 hod.2 (fun z => ?_) (fun _ a' b' ok' g' hg' => ?_)
    · rcases z with z | z
      · exact absurd hs z
      · exact absurd ok (z a b)
    · obtain ⟨e1, e2⟩ := bl_u hn ok ok'
      subst e1; subst e2
      have eg := od_N_u hg hg'
      subst eg
      obtain ⟨_, ha, hb, hab⟩ := ok.2
      refine ⟨rfl, rl_mk ⟨hsz, ⟨hg.1, od_N_P hg hod.2 hn ha hb hab⟩, hsl, fun w => absurd hs w, hpg, hgl, ?_, hrun⟩⟩
      exact Or.inl (hsl.2 hs).2.1
theorem i_vc_join {k : Nat} {u : SX} {v : SY} (I : i_Rel k u v) (hk : k + 5 ≤ 2564) (v1 : Int32) (v2 : Int32) : wpX_join (fun r => wpY_join (fun r' => r' = r ∧ i_Rel (k + 5) u v) v v1 v2) u v1 v2 := by
  refine rl_el (P := fun u v => wpX_join (fun r => wpY_join (fun r' => r' = r ∧ i_Rel (k + 5) u v) v v1 v2) u v1 v2) ?_ I
  intro n nv na np c sl bo pt iS fc rS cT aC tk yC yF yD yA yT od jo loB hiB ki fa fb bf ch bs ps pb pp wS wT sB tL ip me eS oC oL oV dC dT dK co cP cR sE eV yB yL yE yV yK R
  obtain ⟨hsz, hod, hsl, hlat, hpg, hgl, hinf, hrun⟩ := R
  have hsz' := hsz
  obtain ⟨hn1, hn, hnv1, hnv, hna, hnp, hc⟩ := hsz'
  have fin : i_Rel (k + 5) (nI n, nI nv, nI na, nI np, nI (nv + na), nI (nv + na + 3 * np), sl, bo, nI c, pt, iS, fc, rS, cT, aC, tk, od, jo, loB, hiB, ki, fa, fb, bf, ch, bs, ps, pb, pp, wS, wT, sB, tL, ip, me, eS, oC, oL, oV, dC, dT, dK, co, cP, cR, sE, eV) (nI n, nI nv, nI na, nI np, nI (nv + na), nI (nv + na + 3 * np), sl, iS, rS, yC, yF, bo, nI c, yD, yA, yT, od, yB, yL, yE, ki, fa, fb, yV, eS, oC, dC, yK, cP, cR, oL, oV, dT, dK) := rl_mk ⟨hsz, hod, hsl, hlat, hpg, hgl, hinf, hrun⟩
  unfold wpX_join
  dsimp only
  refine xw_in v1 (k := n) (by omega) (fun a ha ea => br_f (by decide) ?_) (fun z => br_t rfl ?_) rfl
  · refine xw_in v2 (k := n) (by omega) (fun b hb eb => br_f (by decide) ?_) (fun z => br_t rfl ?_) rfl
    · subst ea eb
      refine xw_fJ hn (by omega) (by omega) (fun q hq hJ _ => ?_) (fun w => ?_)
      · refine yw_join hn ha hb (fun q' hq' hJ' _ => ⟨by rw [od_Ju hod.2 hq hq' hJ hJ'], fin⟩) (fun w => absurd hJ (w q hq))
      · exact yw_join hn ha hb (fun q' hq' hJ' _ => absurd hJ' (w q' hq')) (fun w => ⟨rfl, fin⟩)
    · unfold wpY_join
      dsimp only
      refine yw_in v1 (k := n) (by omega) (fun _ _ _ => br_f (by decide) ?_) (fun z' => absurd ⟨a, ha, ea⟩ (bz_nr (by omega) z')) rfl
      exact yw_in v2 (k := n) (by omega) (fun j hj ej => absurd ⟨j, hj, ej⟩ (bz_nr (by omega) z)) (fun _ => br_t rfl ⟨rfl, fin⟩) rfl
  · unfold wpY_join
    dsimp only
    exact yw_in v1 (k := n) (by omega) (fun j hj ej => absurd ⟨j, hj, ej⟩ (bz_nr (by omega) z)) (fun _ => br_t rfl ⟨rfl, fin⟩) rfl
theorem i_vc_seal {k : Nat} {u : SX} {v : SY} (I : i_Rel k u v) (hk : k + 5 ≤ 2564) : wpX_seal (fun r u' => wpY_seal (fun r' v' => r' = r ∧ i_Rel (k + 5) u' v') v) u := by
  refine rl_el (P := fun u v => wpX_seal (fun r u' => wpY_seal (fun r' v' => r' = r ∧ i_Rel (k + 5) u' v') v) u) ?_ I
  intro n nv na np c sl bo pt iS fc rS cT aC tk yC yF yD yA yT od jo loB hiB ki fa fb bf ch bs ps pb pp wS wT sB tL ip me eS oC oL oV dC dT dK co cP cR sE eV yB yL yE yV yK R
  obtain ⟨hsz, hod, hsl, hlat, hpg, hgl, hinf, hrun⟩ := R
  have hsz' := hsz
  obtain ⟨hn1, hn, hnv1, hnv, hna, hnp, hc⟩ := hsz'
  by_cases hs : sl = 0
  · have hz := hsl.2 hs
    refine xw_seal hn hn1 (by omega) hod.2 hs (fun z jo' => ?_) (fun q hq hl jo' hT top ht htop => ?_)
    · refine yw_seal hn hn1 (by omega) hod.2 hgl.1 hs (fun _ => ⟨rfl, ?_⟩) (fun q hq hl hall top ht htop => ?_)
      · exact rl_mk ⟨hsz, hod, hsl, fun w => absurd hs w, hpg, hgl, Or.inl hz.2.1, hrun⟩
      · rcases z with z | ⟨p, r, hp, hr, z⟩
        · exact absurd hl (z q hq)
        · obtain ⟨x, hx, hJ⟩ := hall p hp r hr
          exact absurd hJ (z x hx)
    · refine yw_seal hn hn1 (by omega) hod.2 hgl.1 hs (fun z => ?_) (fun q' hq' hl' _ top' ht' htop' => ?_)
      · rcases z with z | ⟨p, r, hp, hr, z⟩
        · exact absurd hl (z q hq)
        · obtain ⟨x, hx, hJ, _⟩ := hT p r hp hr (Or.inl hp)
          exact absurd hJ (z x hx)
      · have e1 : q = q' := hod.2.2.2 q q' hq hq' (hl q' hq') (hl' q hq)
        have e2 : top = top' := hod.2.2.2 top top' ht ht' (htop' top ht) (htop top' ht')
        subst e1; subst e2
        refine ⟨rfl, rl_mk ⟨hsz, hod, ⟨Or.inr rfl, fun w => absurd w (by decide)⟩, fun _ => ⟨⟨q, hq, rfl, hl⟩, hT, fun s hs' => ⟨⟨q, hq, if_pos hs'⟩, ⟨top, ht, if_pos hs'⟩⟩⟩, hpg, ⟨rfl, hgl.2⟩, Or.inl hz.2.1, Or.inl hz.2.2⟩⟩
  · refine br_f hs (br_f hs ⟨rfl, rl_mk ⟨hsz, hod, hsl, hlat, hpg, hgl, hinf, hrun⟩⟩)
theorem i_vc_bound {k : Nat} {u : SX} {v : SY} (I : i_Rel k u v) (hk : k + 5 ≤ 2564) (v1 : Int32) (v2 : Int32) : wpX_bound (fun r => wpY_bound (fun r' => r' = r ∧ i_Rel (k + 5) u v) v v1 v2) u v1 v2 := by
  refine rl_el (P := fun u v => wpX_bound (fun r => wpY_bound (fun r' => r' = r ∧ i_Rel (k + 5) u v) v v1 v2) u v1 v2) ?_ I
  intro n nv na np c sl bo pt iS fc rS cT aC tk yC yF yD yA yT od jo loB hiB ki fa fb bf ch bs ps pb pp wS wT sB tL ip me eS oC oL oV dC dT dK co cP cR sE eV yB yL yE yV yK R
  obtain ⟨hsz, hod, hsl, hlat, hpg, hgl, hinf, hrun⟩ := R
  have hsz' := hsz
  obtain ⟨hn1, hn, hnv1, hnv, hna, hnp, hc⟩ := hsz'
  have fin : i_Rel (k + 5) (nI n, nI nv, nI na, nI np, nI (nv + na), nI (nv + na + 3 * np), sl, bo, nI c, pt, iS, fc, rS, cT, aC, tk, od, jo, loB, hiB, ki, fa, fb, bf, ch, bs, ps, pb, pp, wS, wT, sB, tL, ip, me, eS, oC, oL, oV, dC, dT, dK, co, cP, cR, sE, eV) (nI n, nI nv, nI na, nI np, nI (nv + na), nI (nv + na + 3 * np), sl, iS, rS, yC, yF, bo, nI c, yD, yA, yT, od, yB, yL, yE, ki, fa, fb, yV, eS, oC, dC, yK, cP, cR, oL, oV, dT, dK) := rl_mk ⟨hsz, hod, hsl, hlat, hpg, hgl, hinf, hrun⟩
  by_cases hs : sl = 0
  · exact br_t hs (br_t hs ⟨rfl, fin⟩)
  refine br_f hs ?_
  refine xw_in v1 (k := nv + na + 3 * np) (by omega) (fun j hj ej => br_f (by decide) ?_) (fun z => br_t rfl ?_) rfl
  · subst ej
    have iv : vp_in (nI j) 32 := vp_in_nI (by omega) (by decide)
    rw [nI_clamp (n := j) (by omega)]
    have Y1 : ∀ x : Int32, wpY_in (fun r_38 => ((r_38 = 0 → ((-1 : Int32) = x ∧ i_Rel (k + 5) (nI n, nI nv, nI na, nI np, nI (nv + na), nI (nv + na + 3 * np), sl, bo, nI c, pt, iS, fc, rS, cT, aC, tk, od, jo, loB, hiB, ki, fa, fb, bf, ch, bs, ps, pb, pp, wS, wT, sB, tL, ip, me, eS, oC, oL, oV, dC, dT, dK, co, cP, cR, sE, eV) (nI n, nI nv, nI na, nI np, nI (nv + na), nI (nv + na + 3 * np), sl, iS, rS, yC, yF, bo, nI c, yD, yA, yT, od, yB, yL, yE, ki, fa, fb, yV, eS, oC, dC, yK, cP, cR, oL, oV, dT, dK))) ∧ (¬ r_38 = 0 → (vp_in (v2 * 32 + nI j) 64 ∧ (yB (v2 * 32 + nI j).toNatClampNeg = x ∧ i_Rel (k + 5) (nI n, nI nv, nI na, nI np, nI (nv + na), nI (nv + na + 3 * np), sl, bo, nI c, pt, iS, fc, rS, cT, aC, tk, od, jo, loB, hiB, ki, fa, fb, bf, ch, bs, ps, pb, pp, wS, wT, sB, tL, ip, me, eS, oC, oL, oV, dC, dT, dK, co, cP, cR, sE, eV) (nI n, nI nv, nI na, nI np, nI (nv + na), nI (nv + na + 3 * np), sl, iS, rS, yC, yF, bo, nI c, yD, yA, yT, od, yB, yL, yE, ki, fa, fb, yV, eS, oC, dC, yK, cP, cR, oL, oV, dT, dK)))))) (nI n, nI nv, nI na, nI np, nI (nv + na), nI (nv + na + 3 * np), sl, iS, rS, yC, yF, bo, nI c, yD, yA, yT, od, yB, yL, yE, ki, fa, fb, yV, eS, oC, dC, yK, cP, cR, oL, oV, dT, dK) v2 2 → wpY_bound (fun r' => r' = x ∧ i_Rel (k + 5) (nI n, nI nv, nI na, nI np, nI (nv + na), nI (nv + na + 3 * np), sl, bo, nI c, pt, iS, fc, rS, cT, aC, tk, od, jo, loB, hiB, ki, fa, fb, bf, ch, bs, ps, pb, pp, wS, wT, sB, tL, ip, me, eS, oC, oL, oV, dC, dT, dK, co, cP, cR, sE, eV) (nI n, nI nv, nI na, nI np, nI (nv + na), nI (nv + na + 3 * np), sl, iS, rS, yC, yF, bo, nI c, yD, yA, yT, od, yB, yL, yE, ki, fa, fb, yV, eS, oC, dC, yK, cP, cR, oL, oV, dT, dK)) (nI n, nI nv, nI na, nI np, nI (nv + na), nI (nv + na + 3 * np), sl, iS, rS, yC, yF, bo, nI c, yD, yA, yT, od, yB, yL, yE, ki, fa, fb, yV, eS, oC, dC, yK, cP, cR, oL, oV, dT, dK) (nI j) v2 := by
      intro x h
      exact br_f hs (yw_in (nI j) (k := nv + na + 3 * np) (by omega) (fun _ _ _ => br_f (by decide) h) (fun z => absurd ⟨j, hj, rfl⟩ (bz_nr (by omega) z)) rfl)
    by_cases z0 : v2 = 0
    · subst z0
      refine br_t rfl (And.intro iv (Y1 _ ?_))
      refine yw_in 0 (k := 2) (by decide) (fun _ _ _ => br_f (by decide) ?_) (fun z => absurd ⟨0, by decide, rfl⟩ (bz_nr (by decide) z)) rfl
      rw [show (0 : Int32) * 32 + nI j = nI j by grind, nI_clamp (n := j) (by omega)]
      exact ⟨vp_in_nI (by omega) (by decide), by rw [hgl.1, gl_lo (by omega)], fin⟩
    by_cases z1 : v2 = 1
    · subst z1
      refine br_f z0 (br_t rfl (And.intro iv (Y1 _ ?_)))
      refine yw_in 1 (k := 2) (by decide) (fun _ _ _ => br_f (by decide) ?_) (fun z => absurd ⟨1, by decide, rfl⟩ (bz_nr (by decide) z)) rfl
      rw [show (1 : Int32) * 32 + nI j = nI (32 + j) by rw [show (1 : Int32) * 32 = nI 32 from by decide, nI_add], nI_clamp (n := 32 + j) (by omega)]
      exact ⟨vp_in_nI (by omega) (by decide), by rw [hgl.1, gl_hi], fin⟩
    · refine br_f z0 (br_f z1 (Y1 _ ?_))
      refine yw_in v2 (k := 2) (by decide) (fun i hi ei => ?_) (fun _ => br_t rfl ⟨rfl, fin⟩) rfl
      have : i = 0 ∨ i = 1 := by omega
      rcases this with w | w <;> subst w
      · exact absurd ei z0
      · exact absurd ei z1
  · exact br_f hs (yw_in v1 (k := nv + na + 3 * np) (by omega) (fun j hj ej => absurd ⟨j, hj, ej⟩ (bz_nr (by omega) z)) (fun _ => br_t rfl ⟨rfl, fin⟩) rfl)
end
section
/-! the sealed lattice and the two-level one; the bundles of facts for both sides -/
theorem sm_L2 : sm_L 2 (fun x y => x ||| y) 0 := by
  have c2 : ∀ x, x < 2 → x = 0 ∨ x = 1 := by omega
  refine ⟨by decide, fun x y hx hy => ?_, fun x hx => ?_, fun x y hx hy => ?_, fun x y z hx hy hz => ?_, fun x hx => ?_⟩
  · rcases c2 x hx with rfl | rfl <;> rcases c2 y hy with rfl | rfl <;> decide
  · rcases c2 x hx with rfl | rfl <;> decide
  · rcases c2 x hx with rfl | rfl <;> rcases c2 y hy with rfl | rfl <;> decide
  · rcases c2 x hx with rfl | rfl <;> rcases c2 y hy with rfl | rfl <;> rcases c2 z hz with rfl | rfl <;> decide
  · rcases c2 x hx with rfl | rfl <;> decide
section
variable {n nv na np c : Nat} {sl bo pt iS fc rS cT aC tk : Int32} {od jo loB hiB ki fa fb bf ch bs ps pb pp wS wT sB tL ip me eS oC oL oV dC dT dK co cP cR sE eV : Nat → Int32} {yC yF yD yA yT : Int32} {yB yL yE yV yK : Nat → Int32}
theorem rl_L (hn : n ≤ 8) (hod : rl_od n od) (hs : ¬ sl = 0) (hlat : rl_lat n nv na np sl bo od jo loB hiB) : (∀ x y, x < n → y < n → od_J od n x y (rl_J jo x y) ∧ rl_J jo x y < n ∧ jo (x * 8 + y) = nI (rl_J jo x y)) ∧ bo.toNatClampNeg < n ∧ bo = nI bo.toNatClampNeg ∧ sm_L n (rl_J jo) bo.toNatClampNeg := by
  obtain ⟨⟨b, hb, eb, hl⟩, hT, _⟩ := hlat hs
  obtain ⟨B, p1, p2, p3⟩ := hod
  have P : od_P od n := ⟨p1, p2, p3⟩
  have hJ : ∀ x y, x < n → y < n → od_J od n x y (rl_J jo x y) ∧ rl_J jo x y < n ∧ jo (x * 8 + y) = nI (rl_J jo x y) := by
    intro x y hx hy
    obtain ⟨r, hr, h1, h2⟩ := hT x y hx hy (Or.inl hx)
    have e : rl_J jo x y = r := by unfold rl_J; rw [h2, nI_clamp (by omega)]
    rw [e]; exact ⟨h1, hr, h2⟩
  have e0 : bo.toNatClampNeg = b := by rw [eb, nI_clamp (by omega)]
  refine ⟨hJ, by rw [e0]; exact hb, by rw [e0]; exact eb, ?_⟩
  rw [e0]
  have uq : ∀ {x y q}, x < n → y < n → q < n → od_J od n x y q → rl_J jo x y = q := fun hx hy hq h => od_Ju P (hJ _ _ hx hy).2.1 hq (hJ _ _ hx hy).1 h
  refine ⟨hb, fun x y hx hy => (hJ x y hx hy).2.1, fun x hx => ?_, fun x y hx hy => ?_, fun x y z hx hy hz => ?_, fun x hx => ?_⟩
  · exact uq hx hx hx ⟨p1 x (by omega), p1 x (by omega), fun d _ h _ => h⟩
  · exact uq hx hy (hJ y x hy hx).2.1 (od_Jc (hJ y x hy hx).1)
  · obtain ⟨a1, a2, _⟩ := hJ x y hx hy
    obtain ⟨b1, b2, _⟩ := hJ y z hy hz
    obtain ⟨c1, c2, _⟩ := hJ x (rl_J jo y z) hx b2
    refine uq a2 hz c2 ⟨?_, ?_, fun d hd h1 h2 => ?_⟩
    · exact a1.2.2 _ c2 c1.1 (p2 _ _ _ hy b2 c2 b1.1 c1.2.1)
    · exact p2 _ _ _ hz b2 c2 b1.2.1 c1.2.1
    · exact c1.2.2 d hd (p2 _ _ _ hx a2 hd a1.1 h1) (b1.2.2 d hd (p2 _ _ _ hy a2 hd a1.2.1 h1) h2)
  · exact uq hb hx hx ⟨hl x hx, p1 x (by omega), fun d _ _ h => h⟩
theorem rl_C (hpg : rl_pg n nv na np c pt ki fa fb bf ch bs ps pb pp) (hd : pg_dp (kn ki) np c = 0) : pg_C (kn ki) np c := ⟨hpg.1, hd, hpg.2.2.1⟩
theorem xi_0 (hsz : rl_sz n nv na np c) (hod : rl_od n od) (hs : ¬ sl = 0) (hlat : rl_lat n nv na np sl bo od jo loB hiB) (hpg : rl_pg n nv na np c pt ki fa fb bf ch bs ps pb pp) (hd : pg_dp (kn ki) np c = 0) : xi_H (kn ki) (kn fa) (kn fb) n nv na np c n (rl_J jo) bo.toNatClampNeg (kn fa) 0 bo jo ki fa fb bf ch bs := by
  have C := rl_C hpg hd
  obtain ⟨hn1, hn, hnv1, hnv, hna, hnp, hc⟩ := hsz
  obtain ⟨hJ, b1, b2, L⟩ := rl_L hn hod hs hlat
  obtain ⟨hG, hkk, hWT, hF, hfa, hfb, hpt, hS, hH⟩ := hpg
  refine ⟨⟨hn, hnv, hna, hnp, hc, hn⟩, C, hF, L, hkk, hfa, hfb, hH, fun x y hx hy => Or.inl ⟨rfl, (hJ x y hx hy).2.2⟩, Or.inl ⟨rfl, b2⟩, fun i hi h14 => ⟨(hF i hi).2.2.2.2.1 (Or.inr h14), Or.inl ⟨rfl, hfa i hi (by omega)⟩⟩⟩
theorem xi_2 (hsz : rl_sz n nv na np c) (hpg : rl_pg n nv na np c pt ki fa fb bf ch bs ps pb pp) (hd : pg_dp (kn ki) np c = 0) : xi_H (kn ki) (kn fa) (kn fb) n nv na np c 2 (fun x y => x ||| y) 0 (fun _ => 0) 1 bo jo ki fa fb bf ch bs := by
  have C := rl_C hpg hd
  obtain ⟨hn1, hn, hnv1, hnv, hna, hnp, hc⟩ := hsz
  obtain ⟨hG, hkk, hWT, hF, hfa, hfb, hpt, hS, hH⟩ := hpg
  exact ⟨⟨hn, hnv, hna, hnp, hc, by decide⟩, C, hF, sm_L2, hkk, hfa, hfb, hH, fun x y hx hy => Or.inr ⟨by decide, (bz_or hx hy).1⟩, Or.inr ⟨by decide, rfl⟩, fun i hi h14 => ⟨Nat.zero_lt_two, Or.inr ⟨by decide, rfl⟩⟩⟩
theorem yi_0 (hsz : rl_sz n nv na np c) (hod : rl_od n od) (hs : ¬ sl = 0) (hlat : rl_lat n nv na np sl bo od jo loB hiB) (hpg : rl_pg n nv na np c pt ki fa fb bf ch bs ps pb pp) (hd : pg_dp (kn ki) np c = 0) : yi_H (kn ki) (kn fa) (kn fb) n nv na np c n (rl_J jo) bo.toNatClampNeg (kn fa) 0 bo od ki fa fb := by
  have C := rl_C hpg hd
  obtain ⟨hn1, hn, hnv1, hnv, hna, hnp, hc⟩ := hsz
  obtain ⟨hJ, b1, b2, L⟩ := rl_L hn hod hs hlat
  obtain ⟨hG, hkk, hWT, hF, hfa, hfb, hpt, hS, hH⟩ := hpg
  refine ⟨⟨hn, hnv, hna, hnp, hc, hn, hnv1⟩, C, hF, L, hkk, hfa, hfb, Or.inr ⟨rfl, rfl, hod.2, fun x y hx hy => ⟨(hJ x y hx hy).1, (hJ x y hx hy).2.1⟩⟩, Or.inr ⟨rfl, b2⟩, fun i hi h14 => ⟨(hF i hi).2.2.2.2.1 (Or.inr h14), Or.inr ⟨rfl, hfa i hi (by omega)⟩⟩⟩
theorem yi_2 (hsz : rl_sz n nv na np c) (hpg : rl_pg n nv na np c pt ki fa fb bf ch bs ps pb pp) (hd : pg_dp (kn ki) np c = 0) : yi_H (kn ki) (kn fa) (kn fb) n nv na np c 2 (fun x y => x ||| y) 0 (fun _ => 0) 32 bo od ki fa fb := by
  have C := rl_C hpg hd
  obtain ⟨hn1, hn, hnv1, hnv, hna, hnp, hc⟩ := hsz
  obtain ⟨hG, hkk, hWT, hF, hfa, hfb, hpt, hS, hH⟩ := hpg
  exact ⟨⟨hn, hnv, hna, hnp, hc, by decide, hnv1⟩, C, hF, sm_L2, hkk, hfa, hfb, Or.inl ⟨rfl, fun x y hx hy => (bz_or hx hy).1⟩, Or.inl ⟨rfl, rfl⟩, fun i hi h14 => ⟨Nat.zero_lt_two, Or.inl ⟨rfl, rfl⟩⟩⟩
end
theorem ft_u {nv na np c : Nat} {od hiB ki fa : Nat → Int32} {s t : Nat → Nat} {x y : Int32} (h : ft_is nv na np c od hiB ki fa s t x) (h' : ft_is nv na np c od hiB ki fa s t y) : x = y := by
  rcases h with ⟨k, h1, h2, h3, h4⟩ | ⟨h0, h⟩ <;> rcases h' with ⟨k', g1, g2, g3, g4⟩ | ⟨g0, g⟩
  · rcases Nat.lt_trichotomy k k' with w | w | w
    · exact absurd h2 (g3 k w)
    · rw [h4, g4, w]
    · exact absurd g2 (h3 k' w)
  · exact absurd h2 (g0 k h1)
  · exact absurd g2 (h0 k' g1)
  · rcases h with ⟨k, h1, h2, h3, h4⟩ | ⟨h1, h2⟩ <;> rcases g with ⟨k', g1, g2, g3, g4⟩ | ⟨g1, g2⟩
    · rcases Nat.lt_trichotomy k k' with w | w | w
      · exact absurd h2 (g3 k w)
      · rw [h4, g4, w]
      · exact absurd g2 (h3 k' w)
    · exact absurd h2 (g1 k h1)
    · exact absurd g2 (h1 k' g1)
    · rw [h2, g2]
section
variable {n nv na np c : Nat} {sl bo pt iS fc rS cT aC tk : Int32} {od jo loB hiB ki fa fb bf ch bs ps pb pp wS wT sB tL ip me eS oC oL oV dC dT dK co cP cR sE eV : Nat → Int32}
theorem xw_ff44 (hn : n ≤ 8) (hc : c ≤ 64) (P : od_P od n) (C : pg_C (kn ki) np c) (F : sm_F (kn ki) (kn fa) (kn fb) n nv na np c) (hkk : zz_k ki (kn ki) c) (hfa : ∀ i, i < c → ¬ kn ki i = 9 → fa i = nI (kn fa i)) (hH : px_H (kn ki) np c bf ch bs)
    (hJ : ∀ x y, x < n → y < n → od_J od n x y (rl_J jo x y) ∧ rl_J jo x y < n ∧ jo (x * 8 + y) = nI (rl_J jo x y)) {s t : Nat → Nat} (tb : ∀ q, q < c → t q < n) (hT : ∀ q, q < c → tL q = nI (t q)) (hB : ∀ k, k < nv + na + 3 * np → ¬ ft_b od hiB s k)
    {post : Int32 → Prop} (hp : ∀ x, ft_is nv na np c od hiB ki fa s t x → post x) : ∀ f i m, i + f = c → f < m → (∀ j, j < i → ¬ ft_t od ki fa t j) → wX_findFault_44 post (nI n) (nI nv) (nI na) (nI np) (nI (nv + na)) (nI (nv + na + 3 * np)) sl bo (nI c) pt iS fc rS cT aC tk od jo loB hiB ki fa fb bf ch bs ps pb pp wS wT sB tL ip me eS oC oL oV dC dT dK co cP cR sE eV m (nI i) := by
  intro f
  induction f with
  | zero =>
    intro i m hf hm hI
    obtain ⟨m, rfl⟩ : ∃ e, m = e + 1 := ⟨m - 1, by omega⟩
    have e : i = c := by omega
    subst e
    exact br_t (nI_le (by omega) (by omega)) (hp _ (Or.inr ⟨hB, Or.inr ⟨hI, rfl⟩⟩))
  | succ f ih =>
    intro i m hf hm hI
    obtain ⟨m, rfl⟩ : ∃ e, m = e + 1 := ⟨m - 1, by omega⟩
    obtain ⟨k1, k2⟩ := hkk i (by omega)
    have iv : vp_in (nI i) 64 := vp_in_nI (by omega) (by decide)
    refine br_f (nI_ge (by omega) (by omega)) (And.intro iv ?_)
    rw [nI_clamp (n := i) (by omega), k1]
    refine pk_eq (kn ki i) 8 (fun h8 => ?_) (fun h8 => nm_r (nI_1 i) (ih (i + 1) m (by omega) (by omega) (lt_s hI (fun w => h8 w.1)))) rfl rfl (by omega) (by omega)
    obtain ⟨c1, c2⟩ := xi_c0 hH C (i := i) (by omega) (by rw [h8]; decide)
    have ga := hfa i (by omega) (by omega)
    have fa8 := (F i (by omega)).2.2.2.2.1 (Or.inl h8)
    have t1 := tb _ c2
    have ti := tb i (by omega)
    obtain ⟨j1, j2, j3⟩ := hJ _ _ t1 ti
    have key : od_le od (rl_J jo (t (i + 1)) (t i)) (kn fa i) ↔ (od_le od (t (i + 1)) (kn fa i) ∧ od_le od (t i) (kn fa i)) :=
      ⟨fun w => ⟨P.2.1 _ _ _ t1 j2 fa8 j1.1 w, P.2.1 _ _ _ ti j2 fa8 j1.2.1 w⟩, fun w => j1.2.2 _ fa8 w.1 w.2⟩
    rw [bz_3, nI_clamp (n := 3 * i) (by omega), c1]
    refine And.intro (vp_in_nI (by omega) (by decide)) (nm_e ?_)
    rw [nI_clamp (n := i + 1) (by omega), hT _ c2, hT i (by omega), bz_i8, nI_clamp (n := t (i + 1) * 8 + t i) (by omega), j3]
    refine And.intro (vp_in_nI (by omega) (by decide)) (And.intro iv (And.intro (vp_in_nI (by omega) (by decide)) (nm_e ?_)))
    rw [ga, bz_i8, nI_clamp (n := rl_J jo (t (i + 1)) (t i) * 8 + kn fa i) (by omega)]
    refine And.intro iv (And.intro (vp_in_nI (by omega) (by decide)) ?_)
    refine br_c (fun w => ?_) (fun w => nm_r (nI_1 i) (ih (i + 1) m (by omega) (by omega) (lt_s hI (fun z => z.2 (key.mp w)))))
    rw [show (100 : Int32) = nI 100 from rfl, nI_add]
    exact hp _ (Or.inr ⟨hB, Or.inl ⟨i, by omega, ⟨h8, fun z => key.mpr z w⟩, hI, rfl⟩⟩)
theorem xw_ff2 (hsz : rl_sz n nv na np c) (P : od_P od n) (C : pg_C (kn ki) np c) (F : sm_F (kn ki) (kn fa) (kn fb) n nv na np c) (hkk : zz_k ki (kn ki) c) (hfa : ∀ i, i < c → ¬ kn ki i = 9 → fa i = nI (kn fa i)) (hH : px_H (kn ki) np c bf ch bs)
    (hJ : ∀ x y, x < n → y < n → od_J od n x y (rl_J jo x y) ∧ rl_J jo x y < n ∧ jo (x * 8 + y) = nI (rl_J jo x y)) {s t : Nat → Nat} (tb : ∀ q, q < c → t q < n) (hT : ∀ q, q < c → tL q = nI (t q))
    (hsB : ∀ k, k < nv + na + 3 * np → s k < n ∧ sB k = nI (s k)) (hhi : ∀ k, k < nv + na + 3 * np → ∃ h, h < n ∧ hiB k = nI h)
    {post : Int32 → Prop} (hp : ∀ x, ft_is nv na np c od hiB ki fa s t x → post x) : ∀ f i m, i + f = nv + na + 3 * np → f < m → (∀ j, j < i → ¬ ft_b od hiB s j) → wX_findFault_2 post (nI n) (nI nv) (nI na) (nI np) (nI (nv + na)) (nI (nv + na + 3 * np)) sl bo (nI c) pt iS fc rS cT aC tk od jo loB hiB ki fa fb bf ch bs ps pb pp wS wT sB tL ip me eS oC oL oV dC dT dK co cP cR sE eV m (nI i) := by
  obtain ⟨hn1, hn, hnv1, hnv, hna, hnp, hc⟩ := hsz
  intro f
  induction f with
  | zero =>
    intro i m hf hm hI
    obtain ⟨m, rfl⟩ : ∃ e, m = e + 1 := ⟨m - 1, by omega⟩
    have e : i = nv + na + 3 * np := by omega
    rw [e]
    rw [e] at hI
    exact br_t (nI_le (by omega) (by omega)) ⟨65, xw_ff44 hn hc P C F hkk hfa hH hJ tb hT hI hp c 0 65 (by omega) (by omega) lt_0⟩
  | succ f ih =>
    intro i m hf hm hI
    obtain ⟨m, rfl⟩ : ∃ e, m = e + 1 := ⟨m - 1, by omega⟩
    have iv : vp_in (nI i) 32 := vp_in_nI (by omega) (by decide)
    obtain ⟨s1, s2⟩ := hsB i (by omega)
    obtain ⟨h, h1, h2⟩ := hhi i (by omega)
    have eh : kn hiB i = h := by unfold kn; rw [h2, nI_clamp (by omega)]
    refine br_f (nI_ge (by omega) (by omega)) (And.intro iv (And.intro iv ?_))
    rw [nI_clamp (n := i) (by omega), s2, h2, bz_i8, nI_clamp (n := s i * 8 + h) (by omega)]
    refine And.intro (vp_in_nI (by omega) (by decide)) ?_
    refine br_c (fun w => hp _ (Or.inl ⟨i, by omega, fun z => z (by rw [eh]; exact w), hI, rfl⟩)) (fun w => nm_r (nI_1 i) (ih (i + 1) m (by omega) (by omega) (lt_s hI (fun z => z (fun q => w (by rw [eh] at q; exact q))))))
end
end
section
/-! infer, fault, depends: the walks -/
section
variable {n nv na np c : Nat} {sl bo pt iS fc rS cT aC tk : Int32} {od jo loB hiB ki fa fb bf ch bs ps pb pp wS wT sB tL ip me eS oC oL oV dC dT dK co cP cR sE eV : Nat → Int32}
variable {kd fA fB dl : Nat → Nat} {N b : Nat} {J : Nat → Nat → Nat} {two : Int32}
theorem xw_ff (hsz : rl_sz n nv na np c) (P : od_P od n) (C : pg_C (kn ki) np c) (F : sm_F (kn ki) (kn fa) (kn fb) n nv na np c) (hkk : zz_k ki (kn ki) c) (hfa : ∀ i, i < c → ¬ kn ki i = 9 → fa i = nI (kn fa i)) (hH : px_H (kn ki) np c bf ch bs)
    (hJ : ∀ x y, x < n → y < n → od_J od n x y (rl_J jo x y) ∧ rl_J jo x y < n ∧ jo (x * 8 + y) = nI (rl_J jo x y)) {s t : Nat → Nat} (tb : ∀ q, q < c → t q < n) (hT : ∀ q, q < c → tL q = nI (t q))
    (hsB : ∀ k, k < nv + na + 3 * np → s k < n ∧ sB k = nI (s k)) (hhi : ∀ k, k < nv + na + 3 * np → ∃ h, h < n ∧ hiB k = nI h)
    {post : Int32 → Prop} (hp : ∀ x, ft_is nv na np c od hiB ki fa s t x → post x) : wpX_findFault post (nI n, nI nv, nI na, nI np, nI (nv + na), nI (nv + na + 3 * np), sl, bo, nI c, pt, iS, fc, rS, cT, aC, tk, od, jo, loB, hiB, ki, fa, fb, bf, ch, bs, ps, pb, pp, wS, wT, sB, tL, ip, me, eS, oC, oL, oV, dC, dT, dK, co, cP, cR, sE, eV) := by
  have h := hsz
  obtain ⟨hn1, hn, hnv1, hnv, hna, hnp, hc⟩ := h
  exact ⟨22, xw_ff2 hsz P C F hkk hfa hH hJ tb hT hsB hhi hp (nv + na + 3 * np) 0 22 (by omega) (by omega) lt_0⟩
theorem xw_in72 {wt : Nat → Nat} (hc : c ≤ 64) (hT : ∀ q, q < c → wT q = nI (wt q)) {post : Int32 → SX → Prop}
    (hp : ∀ tL, (∀ q, q < c → tL q = nI (wt q)) → wpX_findFault (fun r => ((r = (-2) → post 1 (nI n, nI nv, nI na, nI np, nI (nv + na), nI (nv + na + 3 * np), sl, bo, nI c, pt, 1, r, rS, cT, aC, tk, od, jo, loB, hiB, ki, fa, fb, bf, ch, bs, ps, pb, pp, wS, wT, sB, tL, ip, me, eS, oC, oL, oV, dC, dT, dK, co, cP, cR, sE, eV)) ∧ (¬ r = (-2) → post 0 (nI n, nI nv, nI na, nI np, nI (nv + na), nI (nv + na + 3 * np), sl, bo, nI c, pt, 1, r, rS, cT, aC, tk, od, jo, loB, hiB, ki, fa, fb, bf, ch, bs, ps, pb, pp, wS, wT, sB, tL, ip, me, eS, oC, oL, oV, dC, dT, dK, co, cP, cR, sE, eV)))) (nI n, nI nv, nI na, nI np, nI (nv + na), nI (nv + na + 3 * np), sl, bo, nI c, pt, iS, fc, rS, cT, aC, tk, od, jo, loB, hiB, ki, fa, fb, bf, ch, bs, ps, pb, pp, wS, wT, sB, tL, ip, me, eS, oC, oL, oV, dC, dT, dK, co, cP, cR, sE, eV)) :
    ∀ f i m tL, i + f = c → f < m → (∀ q, q < i → tL q = nI (wt q)) → wX_infer_72 post (nI n) (nI nv) (nI na) (nI np) (nI (nv + na)) (nI (nv + na + 3 * np)) sl bo (nI c) pt iS fc rS cT aC tk m (nI i) od jo loB hiB ki fa fb bf ch bs ps pb pp wS wT sB tL ip me eS oC oL oV dC dT dK co cP cR sE eV := by
  intro f
  induction f with
  | zero =>
    intro i m tL hf hm hI
    obtain ⟨m, rfl⟩ : ∃ e, m = e + 1 := ⟨m - 1, by omega⟩
    have e : i = c := by omega
    subst e
    exact br_t (nI_le (by omega) (by omega)) (hp tL hI)
  | succ f ih =>
    intro i m tL hf hm hI
    obtain ⟨m, rfl⟩ : ∃ e, m = e + 1 := ⟨m - 1, by omega⟩
    have iv : vp_in (nI i) 64 := vp_in_nI (by omega) (by decide)
    refine br_f (nI_ge (by omega) (by omega)) ?_
    rw [nI_clamp (n := i) (by omega), hT i (by omega), nI_1]
    exact And.intro iv (And.intro iv (nm_e (nm_e (ih (i + 1) m _ (by omega) (by omega) (fun q hq => bz_uk (fun e => by rw [e]) (fun e => hI q (by omega)))))))
theorem xw_in44 {s wt : Nat → Nat} (hns : nv + na + 3 * np ≤ 21) (hc : c ≤ 64) (hW : ws_is wS s (nv + na + 3 * np)) (hT : ∀ q, q < c → wT q = nI (wt q)) {post : Int32 → SX → Prop}
    (hp : ∀ sB tL, (∀ k, k < nv + na + 3 * np → sB k = nI (s k)) → (∀ q, q < c → tL q = nI (wt q)) → wpX_findFault (fun r => ((r = (-2) → post 1 (nI n, nI nv, nI na, nI np, nI (nv + na), nI (nv + na + 3 * np), sl, bo, nI c, pt, 1, r, rS, cT, aC, tk, od, jo, loB, hiB, ki, fa, fb, bf, ch, bs, ps, pb, pp, wS, wT, sB, tL, ip, me, eS, oC, oL, oV, dC, dT, dK, co, cP, cR, sE, eV)) ∧ (¬ r = (-2) → post 0 (nI n, nI nv, nI na, nI np, nI (nv + na), nI (nv + na + 3 * np), sl, bo, nI c, pt, 1, r, rS, cT, aC, tk, od, jo, loB, hiB, ki, fa, fb, bf, ch, bs, ps, pb, pp, wS, wT, sB, tL, ip, me, eS, oC, oL, oV, dC, dT, dK, co, cP, cR, sE, eV)))) (nI n, nI nv, nI na, nI np, nI (nv + na), nI (nv + na + 3 * np), sl, bo, nI c, pt, iS, fc, rS, cT, aC, tk, od, jo, loB, hiB, ki, fa, fb, bf, ch, bs, ps, pb, pp, wS, wT, sB, tL, ip, me, eS, oC, oL, oV, dC, dT, dK, co, cP, cR, sE, eV)) :
    ∀ f i m sB, i + f = nv + na + 3 * np → f < m → (∀ k, k < i → sB k = nI (s k)) → wX_infer_44 post (nI n) (nI nv) (nI na) (nI np) (nI (nv + na)) (nI (nv + na + 3 * np)) sl bo (nI c) pt iS fc rS cT aC tk m (nI i) od jo loB hiB ki fa fb bf ch bs ps pb pp wS wT sB tL ip me eS oC oL oV dC dT dK co cP cR sE eV := by
  intro f
  induction f with
  | zero =>
    intro i m sB hf hm hI
    obtain ⟨m, rfl⟩ : ∃ e, m = e + 1 := ⟨m - 1, by omega⟩
    have e : i = nv + na + 3 * np := by omega
    rw [e]
    rw [e] at hI
    exact br_t (nI_le (by omega) (by omega)) ⟨65, xw_in72 hc hT (fun tL h => hp sB tL hI h) c 0 65 tL (by omega) (by omega) lt_0⟩
  | succ f ih =>
    intro i m sB hf hm hI
    obtain ⟨m, rfl⟩ : ∃ e, m = e + 1 := ⟨m - 1, by omega⟩
    have iv : vp_in (nI i) 32 := vp_in_nI (by omega) (by decide)
    refine br_f (nI_ge (by omega) (by omega)) ?_
    rw [nI_clamp (n := i) (by omega), hW i (by omega), nI_1]
    exact And.intro iv (And.intro iv (nm_e (nm_e (ih (i + 1) m _ (by omega) (by omega) (fun q hq => bz_uk (fun e => by rw [e]) (fun e => hI q (by omega)))))))
theorem xw_in11 {s0 : Nat → Nat} (hns : nv + na + 3 * np ≤ 21) (hlo : ws_is loB s0 (nv + na + 3 * np)) {post : Int32 → SX → Prop}
    (hp : ∀ wS, ws_is wS s0 (nv + na + 3 * np) → wpX_solve (fun u => match u with | (f0, f1, f2, f3, f4, f5, sl, bo, f6, pt, iS, fc, rS, cT, aC, tk, od, jo, loB, hiB, ki, fa, fb, bf, ch, bs, ps, pb, pp, wS, wT, sB, tL, ip, me, eS, oC, oL, oV, dC, dT, dK, co, cP, cR, sE, eV) => (∃ n44 : Nat, wX_infer_44 post f0 f1 f2 f3 f4 f5 sl bo f6 pt iS fc rS cT aC tk n44 0 od jo loB hiB ki fa fb bf ch bs ps pb pp wS wT sB tL ip me eS oC oL oV dC dT dK co cP cR sE eV)) (nI n, nI nv, nI na, nI np, nI (nv + na), nI (nv + na + 3 * np), sl, bo, nI c, pt, iS, fc, rS, cT, aC, tk, od, jo, loB, hiB, ki, fa, fb, bf, ch, bs, ps, pb, pp, wS, wT, sB, tL, ip, me, eS, oC, oL, oV, dC, dT, dK, co, cP, cR, sE, eV) 0) :
    ∀ f i m wS, i + f = nv + na + 3 * np → f < m → ws_is wS s0 i → wX_infer_11 post (nI n) (nI nv) (nI na) (nI np) (nI (nv + na)) (nI (nv + na + 3 * np)) sl bo (nI c) pt iS fc rS cT aC tk m (nI i) od jo loB hiB ki fa fb bf ch bs ps pb pp wS wT sB tL ip me eS oC oL oV dC dT dK co cP cR sE eV := by
  intro f
  induction f with
  | zero =>
    intro i m wS hf hm hI
    obtain ⟨m, rfl⟩ : ∃ e, m = e + 1 := ⟨m - 1, by omega⟩
    have e : i = nv + na + 3 * np := by omega
    rw [e]
    rw [e] at hI
    exact br_t (nI_le (by omega) (by omega)) (hp wS hI)
  | succ f ih =>
    intro i m wS hf hm hI
    obtain ⟨m, rfl⟩ : ∃ e, m = e + 1 := ⟨m - 1, by omega⟩
    have iv : vp_in (nI i) 32 := vp_in_nI (by omega) (by decide)
    refine br_f (nI_ge (by omega) (by omega)) ?_
    rw [nI_clamp (n := i) (by omega), hlo i (by omega), nI_1]
    exact And.intro iv (And.intro iv (nm_e (nm_e (ih (i + 1) m _ (by omega) (by omega) (fun q hq => bz_uk (fun e => by rw [e]) (fun e => hI q (by omega)))))))
theorem xw_infer (H : xi_H (kn ki) (kn fa) (kn fb) n nv na np c n (rl_J jo) b dl 0 bo jo ki fa fb bf ch bs) (hsz : rl_sz n nv na np c) (hs : ¬ sl = 0) (hd : pt = 0) (P : od_P od n) (hJ : ∀ x y, x < n → y < n → od_J od n x y (rl_J jo x y) ∧ rl_J jo x y < n ∧ jo (x * 8 + y) = nI (rl_J jo x y)) (hhi : ∀ k, k < nv + na + 3 * np → ∃ h, h < n ∧ hiB k = nI h)
    {s0 : Nat → Nat} (h0 : ∀ k, k < nv + na + 3 * np → s0 k < n) (hlo : ws_is loB s0 (nv + na + 3 * np)) {post : Int32 → SX → Prop}
    (hp : ∀ wS wT sB tL s t x, sm_W (kn ki) (kn fa) (kn fb) nv na np c n (rl_J jo) b dl s0 s → sm_T (kn ki) (kn fa) nv na np c (rl_J jo) b dl s t → (∀ k, k < nv + na + 3 * np → s k < n ∧ sB k = nI (s k)) → (∀ q, q < c → tL q = nI (t q)) → (∀ q, q < c → t q < n) → ft_is nv na np c od hiB ki fa s t x → (x = -2 → post 1 (nI n, nI nv, nI na, nI np, nI (nv + na), nI (nv + na + 3 * np), sl, bo, nI c, pt, 1, x, rS, cT, aC, tk, od, jo, loB, hiB, ki, fa, fb, bf, ch, bs, ps, pb, pp, wS, wT, sB, tL, ip, me, eS, oC, oL, oV, dC, dT, dK, co, cP, cR, sE, eV)) ∧ (¬ x = -2 → post 0 (nI n, nI nv, nI na, nI np, nI (nv + na), nI (nv + na + 3 * np), sl, bo, nI c, pt, 1, x, rS, cT, aC, tk, od, jo, loB, hiB, ki, fa, fb, bf, ch, bs, ps, pb, pp, wS, wT, sB, tL, ip, me, eS, oC, oL, oV, dC, dT, dK, co, cP, cR, sE, eV))) : wpX_infer post (nI n, nI nv, nI na, nI np, nI (nv + na), nI (nv + na + 3 * np), sl, bo, nI c, pt, iS, fc, rS, cT, aC, tk, od, jo, loB, hiB, ki, fa, fb, bf, ch, bs, ps, pb, pp, wS, wT, sB, tL, ip, me, eS, oC, oL, oV, dC, dT, dK, co, cP, cR, sE, eV) := by
  have H' := H
  obtain ⟨⟨hn, hnv, hna, hnp, hc, hN⟩, C, F, L, hk, hfa, hfb, hH, hjn, hbo, hdl⟩ := H
  refine br_f hs (br_t hd (br_f (by decide) ⟨22, ?_⟩))
  refine xw_in11 (by omega) hlo (fun wS hW => ?_) (nv + na + 3 * np) 0 22 wS (by omega) (by omega) (fun _ w => absurd w (Nat.not_lt_zero _))
  refine xw_solve H' h0 hW (fun wS wT s t hWW hT hW' hT' => ⟨22, ?_⟩)
  have tb := sm_tb C F L hT hWW.1.1 (fun i hi h14 => (hdl i hi h14).1)
  refine xw_in44 (by omega) hc hW' hT' (fun sB tL h1 h2 => ?_) (nv + na + 3 * np) 0 22 sB (by omega) (by omega) (fun _ w => absurd w (Nat.not_lt_zero _))
  refine xw_ff hsz P C F hk hfa hH hJ tb h2 (fun k hk' => ⟨hWW.1.1 k hk', h1 k hk'⟩) hhi (fun x hx => ?_)
  exact hp wS wT sB tL s t x hWW hT (fun k hk' => ⟨hWW.1.1 k hk', h1 k hk'⟩) h2 tb hx
end
section
variable {n nv na np c : Nat} {sl iS rS yC yF bo yD yA yT : Int32} {od yB yL yE ki fa fb yV eS oC dC yK cP cR oL oV dT dK : Nat → Int32}
variable {dl : Nat → Nat} {b : Nat} {J : Nat → Nat → Nat}
theorem yw_ff56 (H : yi_H (kn ki) (kn fa) (kn fb) n nv na np c n J b dl 0 bo od ki fa fb) {s t : Nat → Nat} (T : sm_T (kn ki) (kn fa) nv na np c J b dl s t) (hs : ∀ k, k < nv + na + 3 * np → s k < n) (hW : yl_is yL 0 s (nv + na + 3 * np)) {hiB : Nat → Int32} (hB : ∀ k, k < nv + na + 3 * np → ¬ ft_b od hiB s k)
    {post : Int32 → Prop} (hp : ∀ x, ft_is nv na np c od hiB ki fa s t x → post x) : ∀ f i m, i + f = c → f < m → (∀ j, j < i → ¬ ft_t od ki fa t j) → wY_fault_56 post (nI n) (nI nv) (nI na) (nI np) (nI (nv + na)) (nI (nv + na + 3 * np)) sl iS rS yC yF bo (nI c) yD yA yT od yB yL yE ki fa fb yV eS oC dC yK cP cR oL oV dT dK m (nI i) := by
  have H' := H
  obtain ⟨⟨hn, hnv, hna, hnp, hc, hN, hv1⟩, C, F, L, hk, hfa, hfb, hjn, hbo, hdl⟩ := H
  have tb := sm_tb C F L T hs (fun i hi h14 => (hdl i hi h14).1)
  intro f
  induction f with
  | zero =>
    intro i m hf hm hI
    obtain ⟨m, rfl⟩ : ∃ e, m = e + 1 := ⟨m - 1, by omega⟩
    have e : i = c := by omega
    subst e
    exact br_t (nI_le (by omega) (by omega)) (hp _ (Or.inr ⟨hB, Or.inr ⟨hI, rfl⟩⟩))
  | succ f ih =>
    intro i m hf hm hI
    obtain ⟨m, rfl⟩ : ∃ e, m = e + 1 := ⟨m - 1, by omega⟩
    obtain ⟨k1, k2⟩ := hk i (by omega)
    have iv : vp_in (nI i) 64 := vp_in_nI (by omega) (by decide)
    have ei : (nI i).toNatClampNeg = i := nI_clamp (by omega)
    refine br_f (nI_ge (by omega) (by omega)) (And.intro iv ?_)
    rw [ei, k1]
    refine pk_eq (kn ki i) 8 (fun h8 => ?_) (fun h8 => ?_) rfl rfl (by omega) (by omega)
    · obtain ⟨a1, a2, a3⟩ := pg_k1 C (i := i) (by omega) (by omega)
      have ga := hfa i (by omega) (by omega)
      have fa8 := (F i (by omega)).2.2.2.2.1 (Or.inl h8)
      have t1 := tb _ a1
      have ti := tb i (by omega)
      refine yw_exl H' T hs hW a1 a2 ?_ (nI_1 i)
      show vp_in (nI i) 64 ∧ _
      rw [ei, k1]
      refine And.intro iv (br_t (by rw [h8]; rfl) ?_)
      refine yw_pcl H' T hs hW (i := i) (by omega) (by omega) ?_
      show vp_in (nI i) 64 ∧ _
      rw [ei, k1, ga, bz_i8, bz_i8, nI_clamp (n := t (i + 1) * 8 + kn fa i) (by omega), nI_clamp (n := t i * 8 + kn fa i) (by omega), show (100 : Int32) = nI 100 from rfl, nI_add, nI_1]
      refine And.intro iv (br_t (by rw [h8]; rfl) (And.intro iv (And.intro (vp_in_nI (by omega) (by decide)) ?_)))
      refine br_c (fun w => hp _ (Or.inr ⟨hB, Or.inl ⟨i, by omega, ⟨h8, fun z => z.1 w⟩, hI, rfl⟩⟩)) (fun w1 => And.intro iv (And.intro (vp_in_nI (by omega) (by decide)) ?_))
      refine br_c (fun w => hp _ (Or.inr ⟨hB, Or.inl ⟨i, by omega, ⟨h8, fun z => z.2 w⟩, hI, rfl⟩⟩)) (fun w2 => nm_e (ih (i + 1) m (by omega) (by omega) (lt_s hI (fun z => z.2 ⟨w1, w2⟩))))
    · have h8' : ¬ nI (kn ki i) = 8 := fun w => h8 ((nI_eq (b := 8) (by omega) (by decide)).mp w)
      show vp_in (nI i) 64 ∧ _
      rw [ei, k1]
      refine And.intro iv (br_f h8' ?_)
      show vp_in (nI i) 64 ∧ _
      rw [ei, k1]
      exact And.intro iv (br_f h8' (nm_r (nI_1 i) (ih (i + 1) m (by omega) (by omega) (lt_s hI (fun w => h8 w.1)))))
theorem yw_ff11 (H : yi_H (kn ki) (kn fa) (kn fb) n nv na np c n J b dl 0 bo od ki fa fb) {s t : Nat → Nat} (T : sm_T (kn ki) (kn fa) nv na np c J b dl s t) (hs : ∀ k, k < nv + na + 3 * np → s k < n) (hW : yl_is yL 0 s (nv + na + 3 * np)) {loB hiB : Nat → Int32} (hyB : yB = gl 32 loB hiB) (hhi : ∀ k, k < nv + na + 3 * np → ∃ h, h < n ∧ hiB k = nI h)
    {post : Int32 → Prop} (hp : ∀ x, ft_is nv na np c od hiB ki fa s t x → post x) : ∀ f i m, i + f = nv + na + 3 * np → f < m → (∀ j, j < i → ¬ ft_b od hiB s j) → wY_fault_11 post (nI n) (nI nv) (nI na) (nI np) (nI (nv + na)) (nI (nv + na + 3 * np)) sl iS rS yC yF bo (nI c) yD yA yT od yB yL yE ki fa fb yV eS oC dC yK cP cR oL oV dT dK m (nI i) := by
  have H' := H
  obtain ⟨⟨hn, hnv, hna, hnp, hc, hN, hv1⟩, C, F, L, hk, hfa, hfb, hjn, hbo, hdl⟩ := H
  intro f
  induction f with
  | zero =>
    intro i m hf hm hI
    obtain ⟨m, rfl⟩ : ∃ e, m = e + 1 := ⟨m - 1, by omega⟩
    have e : i = nv + na + 3 * np := by omega
    rw [e]
    rw [e] at hI
    exact br_t (nI_le (by omega) (by omega)) ⟨65, yw_ff56 H' T hs hW hI hp c 0 65 (by omega) (by omega) lt_0⟩
  | succ f ih =>
    intro i m hf hm hI
    obtain ⟨m, rfl⟩ : ∃ e, m = e + 1 := ⟨m - 1, by omega⟩
    have s1 := hs i (by omega)
    have s2 : yL i = nI (s i) := by have := hW i (by omega); rw [Nat.zero_add] at this; exact this
    obtain ⟨h, h1, h2⟩ := hhi i (by omega)
    have eh : kn hiB i = h := by unfold kn; rw [h2, nI_clamp (by omega)]
    have e3 : yB (32 + i) = nI h := by rw [hyB, gl_hi, h2]
    refine br_f (nI_ge (by omega) (by omega)) ?_
    rw [show (32 : Int32) = nI 32 from rfl, nI_add, nI_clamp (n := i) (by omega), nI_clamp (n := 32 + i) (by omega), s2, e3, bz_i8, nI_clamp (n := s i * 8 + h) (by omega)]
    refine And.intro (vp_in_nI (by omega) (by decide)) (And.intro (vp_in_nI (by omega) (by decide)) (And.intro (vp_in_nI (by omega) (by decide)) ?_))
    refine br_c (fun w => hp _ (Or.inl ⟨i, by omega, fun z => z (by rw [eh]; exact w), hI, rfl⟩)) (fun w => nm_r (nI_1 i) (ih (i + 1) m (by omega) (by omega) (lt_s hI (fun z => z (fun q => w (by rw [eh] at q; exact q))))))
theorem yw_ff (H : yi_H (kn ki) (kn fa) (kn fb) n nv na np c n J b dl 0 bo od ki fa fb) {s t : Nat → Nat} (T : sm_T (kn ki) (kn fa) nv na np c J b dl s t) (hs : ∀ k, k < nv + na + 3 * np → s k < n) (hW : yl_is yL 0 s (nv + na + 3 * np)) {loB hiB : Nat → Int32} (hyB : yB = gl 32 loB hiB) (hhi : ∀ k, k < nv + na + 3 * np → ∃ h, h < n ∧ hiB k = nI h) (hiS : ¬ iS = 0)
    {post : Int32 → Prop} (hp : ∀ x, ft_is nv na np c od hiB ki fa s t x → post x) : wpY_fault post (nI n, nI nv, nI na, nI np, nI (nv + na), nI (nv + na + 3 * np), sl, iS, rS, yC, yF, bo, nI c, yD, yA, yT, od, yB, yL, yE, ki, fa, fb, yV, eS, oC, dC, yK, cP, cR, oL, oV, dT, dK) := by
  have h := H.1
  exact br_f hiS ⟨22, yw_ff11 H T hs hW hyB hhi hp (nv + na + 3 * np) 0 22 (by omega) (by omega) lt_0⟩
end
end
section
/-! owed: infer, label, tokenLabel, fault, depends, setBound -/
section
variable {n nv na np c : Nat} {sl bo pt iS fc rS cT aC tk : Int32} {od jo loB hiB ki fa fb bf ch bs ps pb pp wS wT sB tL ip me eS oC oL oV dC dT dK co cP cR sE eV : Nat → Int32}
theorem xw_dep35 {tg src : Nat} (hns : nv + na + 3 * np ≤ 21) (hsrc : src < nv + na + 3 * np) {post : Int32 → SX → Prop}
    (hp : ∀ wS, ws_is wS (fun k => if k = src then 1 else 0) (nv + na + 3 * np) → wpX_solve (fun u => match u with | (f0, f1, f2, f3, f4, f5, sl, bo, f6, pt, iS, fc, rS, cT, aC, tk, od, jo, loB, hiB, ki, fa, fb, bf, ch, bs, ps, pb, pp, wS, wT, sB, tL, ip, me, eS, oC, oL, oV, dC, dT, dK, co, cP, cR, sE, eV) => (vp_in (nI tg) 32 ∧ (post (wS (nI tg).toNatClampNeg) (f0, f1, f2, f3, f4, f5, sl, bo, f6, pt, iS, fc, rS, cT, aC, tk, od, jo, loB, hiB, ki, fa, fb, bf, ch, bs, ps, pb, pp, wS, wT, sB, tL, ip, me, eS, oC, oL, oV, dC, dT, dK, co, cP, cR, sE, eV)))) (nI n, nI nv, nI na, nI np, nI (nv + na), nI (nv + na + 3 * np), sl, bo, nI c, pt, iS, fc, rS, cT, aC, tk, od, jo, loB, hiB, ki, fa, fb, bf, ch, bs, ps, pb, pp, wS, wT, sB, tL, ip, me, eS, oC, oL, oV, dC, dT, dK, co, cP, cR, sE, eV) 1) :
    ∀ f i m wS, i + f = nv + na + 3 * np → f < m → (∀ k, k < i → wS k = 0) → wX_depends_35 post (nI tg) (nI src) (nI n) (nI nv) (nI na) (nI np) (nI (nv + na)) (nI (nv + na + 3 * np)) sl bo (nI c) pt iS fc rS cT aC tk m (nI i) od jo loB hiB ki fa fb bf ch bs ps pb pp wS wT sB tL ip me eS oC oL oV dC dT dK co cP cR sE eV := by
  intro f
  induction f with
  | zero =>
    intro i m wS hf hm hI
    obtain ⟨m, rfl⟩ : ∃ e, m = e + 1 := ⟨m - 1, by omega⟩
    have e : i = nv + na + 3 * np := by omega
    rw [e]
    rw [e] at hI
    refine br_t (nI_le (by omega) (by omega)) (And.intro (vp_in_nI (by omega) (by decide)) ?_)
    rw [nI_clamp (n := src) (by omega)]
    refine nm_e (hp _ (fun k hk => bz_uk (fun e => ?_) (fun e => ?_)))
    · dsimp only; rw [if_pos e]; rfl
    · dsimp only; rw [if_neg e, hI k hk]; rfl
  | succ f ih =>
    intro i m wS hf hm hI
    obtain ⟨m, rfl⟩ : ∃ e, m = e + 1 := ⟨m - 1, by omega⟩
    refine br_f (nI_ge (by omega) (by omega)) ?_
    rw [nI_clamp (n := i) (by omega), nI_1]
    exact And.intro (vp_in_nI (by omega) (by decide)) (nm_e (nm_e (ih (i + 1) m _ (by omega) (by omega) (fun q hq => bz_uk (fun _ => rfl) (fun e => hI q (by omega))))))
end
section
variable {n nv na np c : Nat} {sl bo pt iS fc rS cT aC tk : Int32} {od jo loB hiB ki fa fb bf ch bs ps pb pp wS wT sB tL ip me eS oC oL oV dC dT dK co cP cR sE eV : Nat → Int32} {yC yF yD yA yT : Int32} {yB yL yE yV yK : Nat → Int32}
/-- a program that isn't complete: both refuse -/
theorem rl_nc (hsz : rl_sz n nv na np c) (hsl : rl_sl c sl iS rS) (hpg : rl_pg n nv na np c pt ki fa fb bf ch bs ps pb pp) (h : sl = 0 ∨ ¬ pg_dp (kn ki) np c = 0) : pg_bd (kn ki) np c ≤ np := by
  obtain ⟨hG, hkk, hWT, hF, hfa, hfb, hpt, hS, hH⟩ := hpg
  have hd : ¬ pg_dp (kn ki) np c = 0 := by
    rcases h with h | h
    · have := (hsl.2 h).1
      subst this
      show ¬ np + 1 = 0
      omega
    · exact h
  have := pg_bd_c hG
  rcases Nat.lt_or_ge np (pg_bd (kn ki) np c) with w | w
  · exact absurd (this.mp w) hd
  · exact w
theorem rl_pt (hsz : rl_sz n nv na np c) (hpg : rl_pg n nv na np c pt ki fa fb bf ch bs ps pb pp) : pt = 0 ↔ pg_dp (kn ki) np c = 0 := by
  obtain ⟨hn1, hn, hnv1, hnv, hna, hnp, hc⟩ := hsz
  have hB := pg_dpB (kd := kn ki) (np := np) c
  rw [hpg.2.2.2.2.2.2.1]
  constructor
  · intro w
    exact (nI_eq (b := 0) (by omega) (by decide)).mp w
  · intro w; rw [w]; rfl
theorem xw_nc (hsz : rl_sz n nv na np c) (hpg : rl_pg n nv na np c pt ki fa fb bf ch bs ps pb pp) (h : sl = 0 ∨ ¬ pg_dp (kn ki) np c = 0) {post : Int32 → Prop} (hp : post 0) : wpX_complete post (nI n, nI nv, nI na, nI np, nI (nv + na), nI (nv + na + 3 * np), sl, bo, nI c, pt, iS, fc, rS, cT, aC, tk, od, jo, loB, hiB, ki, fa, fb, bf, ch, bs, ps, pb, pp, wS, wT, sB, tL, ip, me, eS, oC, oL, oV, dC, dT, dK, co, cP, cR, sE, eV) := by
  have e := rl_pt hsz hpg
  by_cases hs : sl = 0
  · exact br_t hs hp
  · rcases h with h | h
    · exact absurd h hs
    · exact br_f hs (br_f (fun w => h (e.mp w)) hp)
theorem xw_co (hsz : rl_sz n nv na np c) (hpg : rl_pg n nv na np c pt ki fa fb bf ch bs ps pb pp) (hs : ¬ sl = 0) (h : pg_dp (kn ki) np c = 0) {post : Int32 → Prop} (hp : post 1) : wpX_complete post (nI n, nI nv, nI na, nI np, nI (nv + na), nI (nv + na + 3 * np), sl, bo, nI c, pt, iS, fc, rS, cT, aC, tk, od, jo, loB, hiB, ki, fa, fb, bf, ch, bs, ps, pb, pp, wS, wT, sB, tL, ip, me, eS, oC, oL, oV, dC, dT, dK, co, cP, cR, sE, eV) :=
  br_f hs (br_t ((rl_pt hsz hpg).mpr h) hp)
end
theorem i_vc_infer {k : Nat} {u : SX} {v : SY} (I : i_Rel k u v) (hk : k + 5 ≤ 2564) : wpX_infer (fun r u' => wpY_infer (fun r' v' => r' = r ∧ i_Rel (k + 5) u' v') v) u := by
  refine rl_el (P := fun u v => wpX_infer (fun r u' => wpY_infer (fun r' v' => r' = r ∧ i_Rel (k + 5) u' v') v) u) ?_ I
  intro n nv na np c sl bo pt iS fc rS cT aC tk yC yF yD yA yT od jo loB hiB ki fa fb bf ch bs ps pb pp wS wT sB tL ip me eS oC oL oV dC dT dK co cP cR sE eV yB yL yE yV yK R
  obtain ⟨hsz, hod, hsl, hlat, hpg, hgl, hinf, hrun⟩ := R
  have hsz' := hsz
  obtain ⟨hn1, hn, hnv1, hnv, hna, hnp, hc⟩ := hsz'
  have hbt := pg_bd_top (kd := kn ki) (np := np) c
  have hpg' := hpg
  obtain ⟨hG, hkk, hWT, hF, hfa, hfb, hpt, hS, hH⟩ := hpg
  by_cases hnc : sl = 0 ∨ ¬ pg_dp (kn ki) np c = 0
  · have hbd := rl_nc hsz hsl hpg' hnc
    unfold wpX_infer
    dsimp only
    refine xw_nc hsz hpg' hnc ?_
    refine br_t rfl ?_
    refine yw_body hkk hc hnp hG (Nat.le_refl c) ?_ rfl
    exact br_f (nI_nlt hbd (by omega)) ⟨rfl, rl_mk ⟨hsz, hod, hsl, hlat, hpg', hgl, hinf, hrun⟩⟩
  · have hs : ¬ sl = 0 := fun w => hnc (Or.inl w)
    have hd : pg_dp (kn ki) np c = 0 := Classical.byContradiction (fun w => hnc (Or.inr w))
    obtain ⟨hJ, b1, b2, L⟩ := rl_L hn hod hs hlat
    obtain ⟨_, hT, hlh⟩ := hlat hs
    have hlo : ∀ q, q < nv + na + 3 * np → kn loB q < n ∧ loB q = nI (kn loB q) := by
      intro q hq
      obtain ⟨l, hl, e⟩ := (hlh q hq).1
      unfold kn
      rw [e, nI_clamp (by omega)]; exact ⟨hl, rfl⟩
    have hhi : ∀ q, q < nv + na + 3 * np → ∃ h, h < n ∧ hiB q = nI h := fun q hq => (hlh q hq).2
    have X := xi_0 hsz hod hs hlat hpg' hd
    have Y := yi_0 hsz hod hs hlat hpg' hd
    have hbd : np < pg_bd (kn ki) np c := (pg_bd_c hG).mpr hd
    refine xw_infer X hsz hs ((rl_pt hsz hpg').mpr hd) hod.2 hJ hhi (s0 := kn loB) (fun q hq => (hlo q hq).1) (fun q hq => (hlo q hq).2) (fun wS' wT' sB' tL' s t x hW hTT h1 h2 tb hx => ?_)
    have key : ∀ (r : Int32), (x = -2 → r = 1) → (¬ x = -2 → r = 0) → wpY_infer (fun r' v' => r' = r ∧ i_Rel (k + 5) (nI n, nI nv, nI na, nI np, nI (nv + na), nI (nv + na + 3 * np), sl, bo, nI c, pt, 1, x, rS, cT, aC, tk, od, jo, loB, hiB, ki, fa, fb, bf, ch, bs, ps, pb, pp, wS', wT', sB', tL', ip, me, eS, oC, oL, oV, dC, dT, dK, co, cP, cR, sE, eV) v') (nI n, nI nv, nI na, nI np, nI (nv + na), nI (nv + na + 3 * np), sl, iS, rS, yC, yF, bo, nI c, yD, yA, yT, od, yB, yL, yE, ki, fa, fb, yV, eS, oC, dC, yK, cP, cR, oL, oV, dT, dK) := by
      intro r hr1 hr0
      refine yw_body hkk hc hnp hG (Nat.le_refl c) ?_ rfl
      refine br_t (nI_lt hbd (by omega)) ?_
      refine yw_least (base := 0) Y (s0 := kn loB) (fun q hq => (hlo q hq).1) (fun q hq => Or.inr ⟨rfl, by rw [hgl.1, gl_lo (by omega)]; exact (hlo q hq).2⟩) (fun yC' yL' s' hW' hy => ?_)
      have es := sm_W_u L hW hW'
      have hy' : yl_is yL' 0 s (nv + na + 3 * np) := fun q hq => by rw [hy.1 q hq, es q hq]
      refine yw_ff Y hTT (fun q hq => (h1 q hq).1) hy' hgl.1 hhi (by decide) (fun x' hx' => ?_)
      have ex := ft_u hx hx'
      subst ex
      have fin : i_Rel (k + 5) (nI n, nI nv, nI na, nI np, nI (nv + na), nI (nv + na + 3 * np), sl, bo, nI c, pt, 1, x, rS, cT, aC, tk, od, jo, loB, hiB, ki, fa, fb, bf, ch, bs, ps, pb, pp, wS', wT', sB', tL', ip, me, eS, oC, oL, oV, dC, dT, dK, co, cP, cR, sE, eV) (nI n, nI nv, nI na, nI np, nI (nv + na), nI (nv + na + 3 * np), sl, 1, rS, yC', yF, bo, nI c, yD, yA, yT, od, yB, yL', yE, ki, fa, fb, yV, eS, oC, dC, yK, cP, cR, oL, oV, dT, dK) := by
        refine rl_mk ⟨hsz, hod, ⟨hsl.1, fun w => absurd w hs⟩, hlat, hpg', hgl, Or.inr ⟨rfl, hs, hd, s, t, fun q hq => ⟨(h1 q hq).1, (h1 q hq).2, ?_⟩, hTT, h2, hx⟩, hrun⟩
        have := hy' q hq
        rw [Nat.zero_add] at this
        exact this
      by_cases ex2 : x = -2
      · exact br_t ex2 ⟨(hr1 ex2).symm, fin⟩
      · exact br_f ex2 ⟨(hr0 ex2).symm, fin⟩
    exact ⟨fun w => key 1 (fun _ => rfl) (fun z => absurd w z), fun w => key 0 (fun z => absurd z w) (fun _ => rfl)⟩
theorem i_vc_label {k : Nat} {u : SX} {v : SY} (I : i_Rel k u v) (hk : k + 5 ≤ 2564) (v1 : Int32) : wpX_label (fun r => wpY_label (fun r' => r' = r ∧ i_Rel (k + 5) u v) v v1) u v1 := by
  refine rl_el (P := fun u v => wpX_label (fun r => wpY_label (fun r' => r' = r ∧ i_Rel (k + 5) u v) v v1) u v1) ?_ I
  intro n nv na np c sl bo pt iS fc rS cT aC tk yC yF yD yA yT od jo loB hiB ki fa fb bf ch bs ps pb pp wS wT sB tL ip me eS oC oL oV dC dT dK co cP cR sE eV yB yL yE yV yK R
  obtain ⟨hsz, hod, hsl, hlat, hpg, hgl, hinf, hrun⟩ := R
  have hsz' := hsz
  obtain ⟨hn1, hn, hnv1, hnv, hna, hnp, hc⟩ := hsz'
  have fin : i_Rel (k + 5) (nI n, nI nv, nI na, nI np, nI (nv + na), nI (nv + na + 3 * np), sl, bo, nI c, pt, iS, fc, rS, cT, aC, tk, od, jo, loB, hiB, ki, fa, fb, bf, ch, bs, ps, pb, pp, wS, wT, sB, tL, ip, me, eS, oC, oL, oV, dC, dT, dK, co, cP, cR, sE, eV) (nI n, nI nv, nI na, nI np, nI (nv + na), nI (nv + na + 3 * np), sl, iS, rS, yC, yF, bo, nI c, yD, yA, yT, od, yB, yL, yE, ki, fa, fb, yV, eS, oC, dC, yK, cP, cR, oL, oV, dT, dK) := rl_mk ⟨hsz, hod, hsl, hlat, hpg, hgl, hinf, hrun⟩
  rcases hinf with w | ⟨w, hs, hd, s, t, h1, h2, h3, h4⟩
  · exact br_t w (br_t w ⟨rfl, fin⟩)
  · have w0 : ¬ iS = 0 := by rw [w]; decide
    refine br_f w0 ?_
    refine xw_in v1 (k := nv + na + 3 * np) (by omega) (fun j hj ej => br_f (by decide) ?_) (fun z => br_t rfl ?_) rfl
    · subst ej
      obtain ⟨e1, e2, e3⟩ := h1 j hj
      rw [nI_clamp (n := j) (by omega), e2]
      refine And.intro (vp_in_nI (by omega) (by decide)) (br_f w0 ?_)
      refine yw_in (nI j) (k := nv + na + 3 * np) (by omega) (fun _ _ _ => br_f (by decide) ?_) (fun z => absurd ⟨j, hj, rfl⟩ (bz_nr (by omega) z)) rfl
      rw [nI_clamp (n := j) (by omega)]
      exact ⟨vp_in_nI (by omega) (by decide), e3, fin⟩
    · exact br_f w0 (yw_in v1 (k := nv + na + 3 * np) (by omega) (fun j hj ej => absurd ⟨j, hj, ej⟩ (bz_nr (by omega) z)) (fun _ => br_t rfl ⟨rfl, fin⟩) rfl)
theorem i_vc_tokenLabel {k : Nat} {u : SX} {v : SY} (I : i_Rel k u v) (hk : k + 5 ≤ 2564) (v1 : Int32) : wpX_tokenLabel (fun r => wpY_tokenLabel (fun r' => r' = r ∧ i_Rel (k + 5) u v) v v1) u v1 := by
  refine rl_el (P := fun u v => wpX_tokenLabel (fun r => wpY_tokenLabel (fun r' => r' = r ∧ i_Rel (k + 5) u v) v v1) u v1) ?_ I
  intro n nv na np c sl bo pt iS fc rS cT aC tk yC yF yD yA yT od jo loB hiB ki fa fb bf ch bs ps pb pp wS wT sB tL ip me eS oC oL oV dC dT dK co cP cR sE eV yB yL yE yV yK R
  obtain ⟨hsz, hod, hsl, hlat, hpg, hgl, hinf, hrun⟩ := R
  have hsz' := hsz
  obtain ⟨hn1, hn, hnv1, hnv, hna, hnp, hc⟩ := hsz'
  have fin : i_Rel (k + 5) (nI n, nI nv, nI na, nI np, nI (nv + na), nI (nv + na + 3 * np), sl, bo, nI c, pt, iS, fc, rS, cT, aC, tk, od, jo, loB, hiB, ki, fa, fb, bf, ch, bs, ps, pb, pp, wS, wT, sB, tL, ip, me, eS, oC, oL, oV, dC, dT, dK, co, cP, cR, sE, eV) (nI n, nI nv, nI na, nI np, nI (nv + na), nI (nv + na + 3 * np), sl, iS, rS, yC, yF, bo, nI c, yD, yA, yT, od, yB, yL, yE, ki, fa, fb, yV, eS, oC, dC, yK, cP, cR, oL, oV, dT, dK) := rl_mk ⟨hsz, hod, hsl, hlat, hpg, hgl, hinf, hrun⟩
  rcases hinf with w | ⟨w, hs, hd, s, t, h1, h2, h3, h4⟩
  · exact br_t w (br_t w ⟨rfl, fin⟩)
  · have w0 : ¬ iS = 0 := by rw [w]; decide
    have Y := yi_0 hsz hod hs hlat hpg hd
    obtain ⟨k1, k2⟩ := And.intro hpg.2.1 hpg.1
    have hW : yl_is yL 0 s (nv + na + 3 * np) := fun q hq => by rw [Nat.zero_add]; exact (h1 q hq).2.2
    refine br_f w0 ?_
    refine xw_in v1 (k := c) (by omega) (fun j hj ej => br_f (by decide) ?_) (fun z => br_t rfl ?_) rfl
    · subst ej
      have iv : vp_in (nI j) 64 := vp_in_nI (by omega) (by decide)
      rw [nI_clamp (n := j) (by omega), h3 j hj]
      refine And.intro iv (br_f w0 ?_)
      refine yw_in (nI j) (k := c) (by omega) (fun _ _ _ => br_f (by decide) ?_) (fun z => absurd ⟨j, hj, rfl⟩ (bz_nr (by omega) z)) rfl
      rw [nI_clamp (n := j) (by omega), (k1 j hj).1]
      have := (k1 j hj).2
      refine And.intro iv (pk_lt (kn ki j) 9 (fun e => ?_) (fun e => ?_) rfl rfl (by omega) (by omega))
      · exact yw_pcl (base := 0) Y h2 (fun q hq => (h1 q hq).1) hW hj (by omega) ⟨rfl, fin⟩
      · exact yw_exl (base := 0) Y h2 (fun q hq => (h1 q hq).1) hW hj e ⟨rfl, fin⟩ rfl
    · exact br_f w0 (yw_in v1 (k := c) (by omega) (fun j hj ej => absurd ⟨j, hj, ej⟩ (bz_nr (by omega) z)) (fun _ => br_t rfl ⟨rfl, fin⟩) rfl)
theorem i_vc_fault {k : Nat} {u : SX} {v : SY} (I : i_Rel k u v) (hk : k + 5 ≤ 2564) : wpX_fault (fun r => wpY_fault (fun r' => r' = r ∧ i_Rel (k + 5) u v) v) u := by
  refine rl_el (P := fun u v => wpX_fault (fun r => wpY_fault (fun r' => r' = r ∧ i_Rel (k + 5) u v) v) u) ?_ I
  intro n nv na np c sl bo pt iS fc rS cT aC tk yC yF yD yA yT od jo loB hiB ki fa fb bf ch bs ps pb pp wS wT sB tL ip me eS oC oL oV dC dT dK co cP cR sE eV yB yL yE yV yK R
  obtain ⟨hsz, hod, hsl, hlat, hpg, hgl, hinf, hrun⟩ := R
  have hsz' := hsz
  obtain ⟨hn1, hn, hnv1, hnv, hna, hnp, hc⟩ := hsz'
  have fin : i_Rel (k + 5) (nI n, nI nv, nI na, nI np, nI (nv + na), nI (nv + na + 3 * np), sl, bo, nI c, pt, iS, fc, rS, cT, aC, tk, od, jo, loB, hiB, ki, fa, fb, bf, ch, bs, ps, pb, pp, wS, wT, sB, tL, ip, me, eS, oC, oL, oV, dC, dT, dK, co, cP, cR, sE, eV) (nI n, nI nv, nI na, nI np, nI (nv + na), nI (nv + na + 3 * np), sl, iS, rS, yC, yF, bo, nI c, yD, yA, yT, od, yB, yL, yE, ki, fa, fb, yV, eS, oC, dC, yK, cP, cR, oL, oV, dT, dK) := rl_mk ⟨hsz, hod, hsl, hlat, hpg, hgl, hinf, hrun⟩
  rcases hinf with w | ⟨w, hs, hd, s, t, h1, h2, h3, h4⟩
  · exact br_t w (br_t w ⟨rfl, fin⟩)
  · have w0 : ¬ iS = 0 := by rw [w]; decide
    have Y := yi_0 hsz hod hs hlat hpg hd
    have hW : yl_is yL 0 s (nv + na + 3 * np) := fun q hq => by rw [Nat.zero_add]; exact (h1 q hq).2.2
    refine br_f w0 ?_
    exact yw_ff Y h2 (fun q hq => (h1 q hq).1) hW hgl.1 (fun q hq => ((hlat hs).2.2 q hq).2) w0 (fun x hx => ⟨ft_u hx h4, fin⟩)
theorem i_vc_depends {k : Nat} {u : SX} {v : SY} (I : i_Rel k u v) (hk : k + 5 ≤ 2564) (v1 : Int32) (v2 : Int32) : wpX_depends (fun r u' => wpY_depends (fun r' v' => r' = r ∧ i_Rel (k + 5) u' v') v v1 v2) u v1 v2 := by
  refine rl_el (P := fun u v => wpX_depends (fun r u' => wpY_depends (fun r' v' => r' = r ∧ i_Rel (k + 5) u' v') v v1 v2) u v1 v2) ?_ I
  intro n nv na np c sl bo pt iS fc rS cT aC tk yC yF yD yA yT od jo loB hiB ki fa fb bf ch bs ps pb pp wS wT sB tL ip me eS oC oL oV dC dT dK co cP cR sE eV yB yL yE yV yK R
  obtain ⟨hsz, hod, hsl, hlat, hpg, hgl, hinf, hrun⟩ := R
  have hsz' := hsz
  obtain ⟨hn1, hn, hnv1, hnv, hna, hnp, hc⟩ := hsz'
  have fin : i_Rel (k + 5) (nI n, nI nv, nI na, nI np, nI (nv + na), nI (nv + na + 3 * np), sl, bo, nI c, pt, iS, fc, rS, cT, aC, tk, od, jo, loB, hiB, ki, fa, fb, bf, ch, bs, ps, pb, pp, wS, wT, sB, tL, ip, me, eS, oC, oL, oV, dC, dT, dK, co, cP, cR, sE, eV) (nI n, nI nv, nI na, nI np, nI (nv + na), nI (nv + na + 3 * np), sl, iS, rS, yC, yF, bo, nI c, yD, yA, yT, od, yB, yL, yE, ki, fa, fb, yV, eS, oC, dC, yK, cP, cR, oL, oV, dT, dK) := rl_mk ⟨hsz, hod, hsl, hlat, hpg, hgl, hinf, hrun⟩
  have hbt := pg_bd_top (kd := kn ki) (np := np) c
  have hpg' := hpg
  obtain ⟨hG, hkk, hWT, hF, hfa, hfb, hpt, hS, hH⟩ := hpg
  by_cases hnc : sl = 0 ∨ ¬ pg_dp (kn ki) np c = 0
  · have hbd := rl_nc hsz hsl hpg' hnc
    unfold wpX_depends
    dsimp only
    refine xw_nc hsz hpg' hnc ?_
    refine br_t rfl ?_
    refine yw_body hkk hc hnp hG (Nat.le_refl c) ?_ rfl
    exact br_t (nI_le hbd (by omega)) ⟨rfl, fin⟩
  · have hs : ¬ sl = 0 := fun w => hnc (Or.inl w)
    have hd : pg_dp (kn ki) np c = 0 := Classical.byContradiction (fun w => hnc (Or.inr w))
    have X := xi_2 (bo := bo) (jo := jo) hsz hpg' hd
    have Y := yi_2 (bo := bo) (od := od) hsz hpg' hd
    have hbd : np < pg_bd (kn ki) np c := (pg_bd_c hG).mpr hd
    unfold wpX_depends
    dsimp only
    refine xw_co hsz hpg' hs hd ?_
    refine br_f (by decide) ?_
    refine xw_in v1 (k := nv + na + 3 * np) (by omega) (fun tg htg etg => br_f (by decide) ?_) (fun z => br_t rfl ?_) rfl
    · refine xw_in v2 (k := nv + na + 3 * np) (by omega) (fun src hsrc esrc => br_f (by decide) ?_) (fun z => br_t rfl ?_) rfl
      · refine ⟨22, ?_⟩
        subst etg esrc
        have h0 : ∀ q, q < nv + na + 3 * np → (fun q => if q = src then 1 else 0) q < 2 := by
          intro q _; dsimp only; split <;> omega
        refine xw_dep35 (by omega) hsrc (fun wS hW => ?_) (nv + na + 3 * np) 0 22 wS (by omega) (by omega) (fun _ w => absurd w (Nat.not_lt_zero _))
        refine xw_solve X h0 hW (fun wS wT s t hWW hT hW' hT' => ?_)
        show vp_in (nI tg) 32 ∧ _
        rw [nI_clamp (n := tg) (by omega), hW' tg htg]
        refine And.intro (vp_in_nI (by omega) (by decide)) ?_
        refine yw_body hkk hc hnp hG (Nat.le_refl c) ?_ rfl
        refine br_f (nI_ge hbd (by omega)) ?_
        refine yw_in (nI tg) (k := nv + na + 3 * np) (by omega) (fun _ _ _ => br_f (by decide) ?_) (fun z => absurd ⟨tg, htg, rfl⟩ (bz_nr (by omega) z)) rfl
        refine yw_in (nI src) (k := nv + na + 3 * np) (by omega) (fun _ _ _ => br_f (by decide) ?_) (fun z => absurd ⟨src, hsrc, rfl⟩ (bz_nr (by omega) z)) rfl
        refine yw_least (base := 32) Y h0 (fun q hq => Or.inl ⟨rfl, fun w => ?_, fun w => ?_⟩) (fun yC' yL' s' hW'' hy => ?_)
        · have := (nI_eq (by omega) (by omega)).mp w
          exact if_pos this
        · exact if_neg (fun z => w (by rw [z]))
        · have es := sm_W_u sm_L2 hWW hW'' tg htg
          show vp_in (32 + nI tg) 64 ∧ _
          rw [show (32 : Int32) = nI 32 from rfl, nI_add, nI_clamp (n := 32 + tg) (by omega), hy.1 tg htg]
          refine And.intro (vp_in_nI (by omega) (by decide)) ⟨by rw [es], rl_mk ⟨hsz, hod, hsl, hlat, hpg', hgl, ?_, hrun⟩⟩
          rcases hinf with w | ⟨w, hs, hd, s, t, h1, h2, h3, h4⟩
          · exact Or.inl w
          · exact Or.inr ⟨w, hs, hd, s, t, fun q hq => ⟨(h1 q hq).1, (h1 q hq).2.1, by rw [hy.2 rfl q (by omega)]; exact (h1 q hq).2.2⟩, h2, h3, h4⟩
      · refine yw_body hkk hc hnp hG (Nat.le_refl c) ?_ rfl
        refine br_f (nI_ge hbd (by omega)) ?_
        refine yw_in v1 (k := nv + na + 3 * np) (by omega) (fun _ _ _ => br_f (by decide) ?_) (fun z => absurd ⟨tg, htg, etg⟩ (bz_nr (by omega) z)) rfl
        exact yw_in v2 (k := nv + na + 3 * np) (by omega) (fun j hj ej => absurd ⟨j, hj, ej⟩ (bz_nr (by omega) z)) (fun _ => br_t rfl ⟨rfl, fin⟩) rfl
    · refine yw_body hkk hc hnp hG (Nat.le_refl c) ?_ rfl
      refine br_f (nI_ge hbd (by omega)) ?_
      exact yw_in v1 (k := nv + na + 3 * np) (by omega) (fun j hj ej => absurd ⟨j, hj, ej⟩ (bz_nr (by omega) z)) (fun _ => br_t rfl ⟨rfl, fin⟩) rfl
theorem i_vc_setBound {k : Nat} {u : SX} {v : SY} (I : i_Rel k u v) (hk : k + 5 ≤ 2564) (v1 : Int32) (v2 : Int32) (v3 : Int32) : wpX_setBound (fun r u' => wpY_setBound (fun r' v' => r' = r ∧ i_Rel (k + 5) u' v') v v1 v2 v3) u v1 v2 v3 := by
  refine rl_el (P := fun u v => wpX_setBound (fun r u' => wpY_setBound (fun r' v' => r' = r ∧ i_Rel (k + 5) u' v') v v1 v2 v3) u v1 v2 v3) ?_ I
  intro n nv na np c sl bo pt iS fc rS cT aC tk yC yF yD yA yT od jo loB hiB ki fa fb bf ch bs ps pb pp wS wT sB tL ip me eS oC oL oV dC dT dK co cP cR sE eV yB yL yE yV yK R
  obtain ⟨hsz, hod, hsl, hlat, hpg, hgl, hinf, hrun⟩ := R
  have hsz' := hsz
  obtain ⟨hn1, hn, hnv1, hnv, hna, hnp, hc⟩ := hsz'
  have fin : i_Rel (k + 5) (nI n, nI nv, nI na, nI np, nI (nv + na), nI (nv + na + 3 * np), sl, bo, nI c, pt, iS, fc, rS, cT, aC, tk, od, jo, loB, hiB, ki, fa, fb, bf, ch, bs, ps, pb, pp, wS, wT, sB, tL, ip, me, eS, oC, oL, oV, dC, dT, dK, co, cP, cR, sE, eV) (nI n, nI nv, nI na, nI np, nI (nv + na), nI (nv + na + 3 * np), sl, iS, rS, yC, yF, bo, nI c, yD, yA, yT, od, yB, yL, yE, ki, fa, fb, yV, eS, oC, dC, yK, cP, cR, oL, oV, dT, dK) := rl_mk ⟨hsz, hod, hsl, hlat, hpg, hgl, hinf, hrun⟩
  by_cases hs : sl = 0
  · refine br_t hs ?_
    exact br_t hs (br_t rfl ⟨rfl, fin⟩)
  refine br_f hs ?_
  refine xw_in v1 (k := nv + na + 3 * np) (by omega) (fun j hj ej => br_f (by decide) ?_) (fun z => br_t rfl ?_) rfl
  · subst ej
    have hlh := (hlat hs).2.2
    -- the reference's first question
    have Y1 : ∀ post : Int32 → SY → Prop, (∀ w, w < 2 → v2 = nI w → wpY_in (fun r_37 => ((r_37 = 0 → post (-1) (nI n, nI nv, nI na, nI np, nI (nv + na), nI (nv + na + 3 * np), sl, iS, rS, yC, yF, bo, nI c, yD, yA, yT, od, yB, yL, yE, ki, fa, fb, yV, eS, oC, dC, yK, cP, cR, oL, oV, dT, dK)) ∧ (¬ r_37 = 0 → (vp_in (v2 * 32 + nI j) 64 ∧ ∀ a_bounds_74 : Nat → Int32, a_bounds_74 = upd yB (v2 * 32 + nI j).toNatClampNeg v3 → post 1 (nI n, nI nv, nI na, nI np, nI (nv + na), nI (nv + na + 3 * np), sl, 0, rS, yC, yF, bo, nI c, yD, yA, yT, od, a_bounds_74, yL, yE, ki, fa, fb, yV, eS, oC, dC, yK, cP, cR, oL, oV, dT, dK))))) (nI n, nI nv, nI na, nI np, nI (nv + na), nI (nv + na + 3 * np), sl, iS, rS, yC, yF, bo, nI c, yD, yA, yT, od, yB, yL, yE, ki, fa, fb, yV, eS, oC, dC, yK, cP, cR, oL, oV, dT, dK) v3 (nI n)) → ((v2 < 0 ∨ (¬ v2 < 0 ∧ nI 2 ≤ v2)) → post (-1) (nI n, nI nv, nI na, nI np, nI (nv + na), nI (nv + na + 3 * np), sl, iS, rS, yC, yF, bo, nI c, yD, yA, yT, od, yB, yL, yE, ki, fa, fb, yV, eS, oC, dC, yK, cP, cR, oL, oV, dT, dK)) → wpY_setBound post (nI n, nI nv, nI na, nI np, nI (nv + na), nI (nv + na + 3 * np), sl, iS, rS, yC, yF, bo, nI c, yD, yA, yT, od, yB, yL, yE, ki, fa, fb, yV, eS, oC, dC, yK, cP, cR, oL, oV, dT, dK) (nI j) v2 v3 := by
      intro post h1 h0
      refine br_f hs ?_
      refine yw_in (nI j) (k := nv + na + 3 * np) (by omega) (fun _ _ _ => br_f (by decide) ?_) (fun z => absurd ⟨j, hj, rfl⟩ (bz_nr (by omega) z)) rfl
      refine yw_in v2 (k := 2) (by decide) (fun w hw ew => br_f (by decide) ?_) (fun z => br_t rfl (br_t rfl (h0 z))) rfl
      have e1 : v2 * 32 + nI j = nI (w * 32 + j) := by rw [ew, show (32 : Int32) = nI 32 from rfl, pk_mul, nI_add]
      have ne : ∃ l, l < n ∧ yB (w * 32 + j) = nI l := by
        have : w = 0 ∨ w = 1 := by omega
        rcases this with q | q
        · subst q
          obtain ⟨l, hl, e⟩ := (hlh j hj).1
          exact ⟨l, hl, by rw [hgl.1, show 0 * 32 + j = j by omega, gl_lo (by omega)]; exact e⟩
        · subst q
          obtain ⟨l, hl, e⟩ := (hlh j hj).2
          exact ⟨l, hl, by rw [hgl.1, show 1 * 32 + j = 32 + j by omega, gl_hi]; exact e⟩
      obtain ⟨l, hl, el⟩ := ne
      refine And.intro (by rw [e1]; exact vp_in_nI (by omega) (by decide)) ?_
      refine br_f ?_ (h1 w hw ew)
      rw [e1, nI_clamp (n := w * 32 + j) (by omega), el]
      exact fun e => bz_neg (x := -1) (by decide) (k := l) (by omega) e.symm
    refine xw_in v3 (k := n) (by omega) (fun l hl el => br_f (by decide) ?_) (fun z => br_t rfl ?_) rfl
    · subst el
      have iv : vp_in (nI j) 32 := vp_in_nI (by omega) (by decide)
      rw [nI_clamp (n := j) (by omega)]
      have nlat : ∀ lo' hi' : Nat → Int32, (∀ q, q < nv + na + 3 * np → lo' q = loB q ∨ lo' q = nI l) → (∀ q, q < nv + na + 3 * np → hi' q = hiB q ∨ hi' q = nI l) → rl_lat n nv na np sl bo od jo lo' hi' := by
        intro lo' hi' q1 q2 _
        refine ⟨(hlat hs).1, (hlat hs).2.1, fun q hq => ⟨?_, ?_⟩⟩
        · rcases q1 q hq with w | w
          · rw [w]; exact (hlh q hq).1
          · exact ⟨l, hl, w⟩
        · rcases q2 q hq with w | w
          · rw [w]; exact (hlh q hq).2
          · exact ⟨l, hl, w⟩
      by_cases z0 : v2 = 0
      · subst z0
        refine br_t rfl (And.intro iv (nm_e ?_))
        refine Y1 _ (fun w hw ew => ?_) (fun z => absurd ⟨0, by decide, rfl⟩ (bz_nr (by decide) z))
        refine yw_in (nI l) (k := n) (by omega) (fun _ _ _ => br_f (by decide) ?_) (fun z => absurd ⟨l, hl, rfl⟩ (bz_nr (by omega) z)) rfl
        rw [show (0 : Int32) * 32 + nI j = nI j by grind, nI_clamp (n := j) (by omega)]
        refine And.intro (vp_in_nI (by omega) (by decide)) (nm_e ⟨rfl, rl_mk ⟨hsz, hod, ⟨hsl.1, fun w => absurd w hs⟩, nlat _ _ (fun q hq => ?_) (fun q hq => Or.inl rfl), hpg, ⟨by rw [hgl.1, gl_ulo (by omega)], hgl.2⟩, Or.inl rfl, hrun⟩⟩)
        by_cases e : q = j
        · subst e; exact Or.inr pk_us
        · exact Or.inl (pk_un e)
      by_cases z1 : v2 = 1
      · subst z1
        refine br_f z0 (br_t rfl (And.intro iv (nm_e ?_)))
        refine Y1 _ (fun w hw ew => ?_) (fun z => absurd ⟨1, by decide, rfl⟩ (bz_nr (by decide) z))
        refine yw_in (nI l) (k := n) (by omega) (fun _ _ _ => br_f (by decide) ?_) (fun z => absurd ⟨l, hl, rfl⟩ (bz_nr (by omega) z)) rfl
        rw [show (1 : Int32) * 32 + nI j = nI (32 + j) by rw [show (1 : Int32) * 32 = nI 32 from by decide, nI_add], nI_clamp (n := 32 + j) (by omega)]
        refine And.intro (vp_in_nI (by omega) (by decide)) (nm_e ⟨rfl, rl_mk ⟨hsz, hod, ⟨hsl.1, fun w => absurd w hs⟩, nlat _ _ (fun q hq => Or.inl rfl) (fun q hq => ?_), hpg, ⟨by rw [hgl.1, gl_uhi], hgl.2⟩, Or.inl rfl, hrun⟩⟩)
        by_cases e : q = j
        · subst e; exact Or.inr pk_us
        · exact Or.inl (pk_un e)
      · refine br_f z0 (br_f z1 ?_)
        refine Y1 _ (fun w hw ew => ?_) (fun z => ⟨rfl, fin⟩)
        have : w = 0 ∨ w = 1 := by omega
        rcases this with q | q <;> subst q
        · exact absurd ew z0
        · exact absurd ew z1
    · refine Y1 _ (fun w hw ew => ?_) (fun z => ⟨rfl, fin⟩)
      exact yw_in v3 (k := n) (by omega) (fun l hl el => absurd ⟨l, hl, el⟩ (bz_nr (by omega) z)) (fun _ => br_t rfl ⟨rfl, fin⟩) rfl
  · refine br_f hs ?_
    exact yw_in v1 (k := nv + na + 3 * np) (by omega) (fun j hj ej => absurd ⟨j, hj, ej⟩ (bz_nr (by omega) z)) (fun _ => br_t rfl (br_t rfl ⟨rfl, fin⟩)) rfl
end
section
/-! owed: input, value, status, output -/
def ic_is (nv na : Nat) (x y : Int32) (s q : Nat) : Prop := x = nI s ∧ y = nI q ∧ s < nv + na ∧ q < 4 ∧ (s < nv → q = 0)
theorem ic_u {nv na : Nat} (hnv : nv ≤ 8) (hna : na ≤ 4) {x y : Int32} {s q s' q' : Nat} (h : ic_is nv na x y s q) (h' : ic_is nv na x y s' q') : s = s' ∧ q = q' := by
  obtain ⟨a1, a2, a3, a4, a5⟩ := h
  obtain ⟨b1, b2, b3, b4, b5⟩ := h'
  exact ⟨(nI_eq (by omega) (by omega)).mp (by rw [← a1, ← b1]), (nI_eq (by omega) (by omega)).mp (by rw [← a2, ← b2])⟩
theorem bz_48 (r p : Nat) : nI r * 48 + nI p = nI (r * 48 + p) := by rw [show (48 : Int32) = nI 48 from rfl, pk_mul, nI_add]
section
variable {n nv na np c : Nat} {sl bo pt iS fc rS cT aC tk : Int32} {od jo loB hiB ki fa fb bf ch bs ps pb pp wS wT sB tL ip me eS oC oL oV dC dT dK co cP cR sE eV : Nat → Int32}
theorem xw_cp (hnv : nv ≤ 8) (hna : na ≤ 4) {x y : Int32} {post : Int32 → Prop} (h1 : ∀ s q, ic_is nv na x y s q → post (nI (s * 4 + q))) (h0 : (∀ s q, ¬ ic_is nv na x y s q) → post (-1)) : wpX_cellPlace post (nI n, nI nv, nI na, nI np, nI (nv + na), nI (nv + na + 3 * np), sl, bo, nI c, pt, iS, fc, rS, cT, aC, tk, od, jo, loB, hiB, ki, fa, fb, bf, ch, bs, ps, pb, pp, wS, wT, sB, tL, ip, me, eS, oC, oL, oV, dC, dT, dK, co, cP, cR, sE, eV) x y := by
  unfold wpX_cellPlace
  dsimp only
  refine xw_in x (k := nv + na) (by omega) (fun s hs es => br_f (by decide) ?_) (fun z => br_t rfl (h0 (fun s q w => bz_nr (by omega) z ⟨s, w.2.2.1, w.1⟩))) rfl
  subst es
  have u1 : ∀ {s' : Nat}, s' < nv + na → nI s = nI s' → s = s' := fun h e => (nI_eq (by omega) (by omega)).mp e
  have fin : ∀ q, ic_is nv na (nI s) y s q → y = nI q → post (nI s * 4 + y) := by
    intro q hq e
    rw [e, show (4 : Int32) = nI 4 from rfl, pk_mul, nI_add]
    exact h1 s q hq
  refine pk_le nv s (fun w => ?_) (fun w => ?_) rfl rfl (by omega) (by omega)
  · unfold wX_cellPlace_27
    exact xw_in y (k := 4) (by decide) (fun q hq eq => br_f (by decide) (fin q ⟨rfl, eq, hs, hq, fun z => by omega⟩ eq)) (fun z => br_t rfl (h0 (fun s' q w => bz_nr (by decide) z ⟨q, w.2.2.2.1, w.2.1⟩))) rfl
  · unfold wX_cellPlace_27
    refine xw_in y (k := 1) (by decide) (fun q hq eq => br_f (by decide) (fin q ⟨rfl, eq, hs, by omega, fun z => by omega⟩ eq)) (fun z => br_t rfl (h0 (fun s' q w' => bz_nr (by decide) z ⟨q, ?_, w'.2.1⟩))) rfl
    have := u1 w'.2.2.1 w'.1
    subst this
    have := w'.2.2.2.2 w
    omega
end
section
variable {n nv na np c : Nat} {sl iS rS yC yF bo yD yA yT : Int32} {od yB yL yE ki fa fb yV eS oC dC yK cP cR oL oV dT dK : Nat → Int32}
theorem yw_ic (hnv : nv ≤ 8) (hna : na ≤ 4) {x y : Int32} {post : Int32 → Prop} (h1 : ∀ s q, ic_is nv na x y s q → post 1) (h0 : (∀ s q, ¬ ic_is nv na x y s q) → post 0) : wpY_isCell post (nI n, nI nv, nI na, nI np, nI (nv + na), nI (nv + na + 3 * np), sl, iS, rS, yC, yF, bo, nI c, yD, yA, yT, od, yB, yL, yE, ki, fa, fb, yV, eS, oC, dC, yK, cP, cR, oL, oV, dT, dK) x y := by
  unfold wpY_isCell
  dsimp only
  refine yw_in x (k := nv + na) (by omega) (fun s hs es => br_f (by decide) ?_) (fun z => br_t rfl (h0 (fun s q w => bz_nr (by omega) z ⟨s, w.2.2.1, w.1⟩))) rfl
  subst es
  have u1 : ∀ {s' : Nat}, s' < nv + na → nI s = nI s' → s = s' := fun h e => (nI_eq (by omega) (by omega)).mp e
  refine pk_le nv s (fun w => ?_) (fun w => ?_) rfl rfl (by omega) (by omega)
  · unfold wY_isCell_27
    exact yw_in y (k := 4) (by decide) (fun q hq eq => br_f (by decide) (h1 s q ⟨rfl, eq, hs, hq, fun z => by omega⟩)) (fun z => br_t rfl (h0 (fun s' q w => bz_nr (by decide) z ⟨q, w.2.2.2.1, w.2.1⟩))) rfl
  · unfold wY_isCell_27
    refine yw_in y (k := 1) (by decide) (fun q hq eq => br_f (by decide) (h1 s q ⟨rfl, eq, hs, by omega, fun z => by omega⟩)) (fun z => br_t rfl (h0 (fun s' q w' => bz_nr (by decide) z ⟨q, ?_, w'.2.1⟩))) rfl
    have := u1 w'.2.2.1 w'.1
    subst this
    have := w'.2.2.2.2 w
    omega
theorem yw_idx {a b s q : Nat} {post : Int32 → Prop} (h : post (nI (a * 96 + b * 48 + s * 4 + q))) {x y z w : Int32} (hx : x = nI a) (hy : y = nI b) (hz : z = nI s) (hw : w = nI q) : wpY_idx post (nI n, nI nv, nI na, nI np, nI (nv + na), nI (nv + na + 3 * np), sl, iS, rS, yC, yF, bo, nI c, yD, yA, yT, od, yB, yL, yE, ki, fa, fb, yV, eS, oC, dC, yK, cP, cR, oL, oV, dT, dK) x y z w := by
  subst hx hy hz hw
  show post (nI a * 96 + nI b * 48 + nI s * 4 + nI q)
  rw [show (96 : Int32) = nI 96 from rfl, show (48 : Int32) = nI 48 from rfl, show (4 : Int32) = nI 4 from rfl, pk_mul, pk_mul, pk_mul, nI_add, nI_add, nI_add]
  exact h
end
theorem i_vc_input {k : Nat} {u : SX} {v : SY} (I : i_Rel k u v) (hk : k + 5 ≤ 2564) (v1 : Int32) (v2 : Int32) (v3 : Int32) (v4 : Int32) : wpX_input (fun r u' => wpY_input (fun r' v' => r' = r ∧ i_Rel (k + 5) u' v') v v1 v2 v3 v4) u v1 v2 v3 v4 := by
  refine rl_el (P := fun u v => wpX_input (fun r u' => wpY_input (fun r' v' => r' = r ∧ i_Rel (k + 5) u' v') v v1 v2 v3 v4) u v1 v2 v3 v4) ?_ I
  intro n nv na np c sl bo pt iS fc rS cT aC tk yC yF yD yA yT od jo loB hiB ki fa fb bf ch bs ps pb pp wS wT sB tL ip me eS oC oL oV dC dT dK co cP cR sE eV yB yL yE yV yK R
  obtain ⟨hsz, hod, hsl, hlat, hpg, hgl, hinf, hrun⟩ := R
  have hsz' := hsz
  obtain ⟨hn1, hn, hnv1, hnv, hna, hnp, hc⟩ := hsz'
  have fin : i_Rel (k + 5) (nI n, nI nv, nI na, nI np, nI (nv + na), nI (nv + na + 3 * np), sl, bo, nI c, pt, iS, fc, rS, cT, aC, tk, od, jo, loB, hiB, ki, fa, fb, bf, ch, bs, ps, pb, pp, wS, wT, sB, tL, ip, me, eS, oC, oL, oV, dC, dT, dK, co, cP, cR, sE, eV) (nI n, nI nv, nI na, nI np, nI (nv + na), nI (nv + na + 3 * np), sl, iS, rS, yC, yF, bo, nI c, yD, yA, yT, od, yB, yL, yE, ki, fa, fb, yV, eS, oC, dC, yK, cP, cR, oL, oV, dT, dK) := rl_mk ⟨hsz, hod, hsl, hlat, hpg, hgl, hinf, hrun⟩
  have fin2 : ∀ ip', i_Rel (k + 5) (nI n, nI nv, nI na, nI np, nI (nv + na), nI (nv + na + 3 * np), sl, bo, nI c, pt, iS, fc, 0, cT, aC, tk, od, jo, loB, hiB, ki, fa, fb, bf, ch, bs, ps, pb, pp, wS, wT, sB, tL, ip', me, eS, oC, oL, oV, dC, dT, dK, co, cP, cR, sE, eV) (nI n, nI nv, nI na, nI np, nI (nv + na), nI (nv + na + 3 * np), sl, iS, 0, yC, yF, bo, nI c, yD, yA, yT, od, yB, yL, gl 96 ip' me, ki, fa, fb, yV, eS, oC, dC, yK, cP, cR, oL, oV, dT, dK) := by
    intro ip'
    refine rl_mk ⟨hsz, hod, ⟨hsl.1, fun w => ⟨(hsl.2 w).1, (hsl.2 w).2.1, rfl⟩⟩, hlat, hpg, ⟨hgl.1, rfl⟩, hinf, Or.inl rfl⟩
  have hE := hgl.2
  -- the reference refuses
  have YR : (∀ j, j < 3 → v1 = nI j → ∀ s q, ¬ ic_is nv na v2 v3 s q) → wpY_input (fun r' v' => r' = -1 ∧ i_Rel (k + 5) (nI n, nI nv, nI na, nI np, nI (nv + na), nI (nv + na + 3 * np), sl, bo, nI c, pt, iS, fc, rS, cT, aC, tk, od, jo, loB, hiB, ki, fa, fb, bf, ch, bs, ps, pb, pp, wS, wT, sB, tL, ip, me, eS, oC, oL, oV, dC, dT, dK, co, cP, cR, sE, eV) v') (nI n, nI nv, nI na, nI np, nI (nv + na), nI (nv + na + 3 * np), sl, iS, rS, yC, yF, bo, nI c, yD, yA, yT, od, yB, yL, yE, ki, fa, fb, yV, eS, oC, dC, yK, cP, cR, oL, oV, dT, dK) v1 v2 v3 v4 := by
    intro h
    unfold wpY_input
    dsimp only
    refine yw_in v1 (k := 3) (by decide) (fun j hj ej => br_f (by decide) ?_) (fun z => br_t rfl ⟨rfl, fin⟩) rfl
    exact yw_ic hnv hna (fun s q w => absurd w (h j hj ej s q)) (fun _ => br_t rfl ⟨rfl, fin⟩)
  by_cases h0 : v1 < 0
  · exact br_t h0 (YR (fun j hj ej => absurd ej (bz_neg h0 (by omega))))
  refine br_f h0 ?_
  obtain ⟨j, hj31, rfl⟩ := nI_of h0
  refine pk_le j 2 (fun hj => ?_) (fun hj => YR (fun j' hj' e => by have := (nI_eq hj31 (by omega)).mp e; omega)) rfl rfl (by omega) (by omega)
  refine xw_cp hnv hna (fun s q hic => br_t (nI_pos' (by have := hic.2.2.1; have := hic.2.2.2.1; omega)) ?_) (fun w => br_f (by decide) (YR (fun _ _ _ => w)))
  obtain ⟨rfl, rfl, hs, hq, hsq⟩ := hic
  have hp48 : s * 4 + q < 48 := by omega
  have e1 : (nI (s * 4 + q)).toNatClampNeg = s * 4 + q := nI_clamp (by omega)
  have e2 : (48 : Int32) + nI (s * 4 + q) = nI (48 + (s * 4 + q)) := by rw [show (48 : Int32) = nI 48 from rfl, nI_add]
  have e3 : (nI (48 + (s * 4 + q))).toNatClampNeg = 48 + (s * 4 + q) := nI_clamp (by omega)
  have i1 : vp_in (nI (s * 4 + q)) 96 := vp_in_nI (by omega) (by decide)
  have i2 : vp_in (nI (48 + (s * 4 + q))) 96 := vp_in_nI (by omega) (by decide)
  -- the reference accepts
  have YA : ∀ P : Int32 → SY → Prop, ((nI j = 1 → wY_input_40 P (nI j) (nI s) (nI q) v4 (nI n) (nI nv) (nI na) (nI np) (nI (nv + na)) (nI (nv + na + 3 * np)) sl iS rS yC yF bo (nI c) yD yA yT od yB yL yE ki fa fb yV eS oC dC yK cP cR oL oV dT dK) ∧ (¬ nI j = 1 → wY_input_40 P (nI j) (nI s) (nI q) v4 (nI n) (nI nv) (nI na) (nI np) (nI (nv + na)) (nI (nv + na + 3 * np)) sl iS rS yC yF bo (nI c) yD yA yT od yB yL (gl 96 (upd ip (s * 4 + q) v4) me) ki fa fb yV eS oC dC yK cP cR oL oV dT dK)) → wpY_input P (nI n, nI nv, nI na, nI np, nI (nv + na), nI (nv + na + 3 * np), sl, iS, rS, yC, yF, bo, nI c, yD, yA, yT, od, yB, yL, yE, ki, fa, fb, yV, eS, oC, dC, yK, cP, cR, oL, oV, dT, dK) (nI j) (nI s) (nI q) v4 := by
    intro P h
    unfold wpY_input
    dsimp only
    refine yw_in (nI j) (k := 3) (by decide) (fun _ _ _ => br_f (by decide) ?_) (fun z => absurd ⟨j, by omega, rfl⟩ (bz_nr (by decide) z)) rfl
    refine yw_ic hnv hna (fun s' q' _ => br_f (by decide) ?_) (fun w => absurd ⟨rfl, rfl, hs, hq, hsq⟩ (w s q))
    refine br_c (fun w => h.1 w) (fun w => ?_)
    refine yw_idx (a := 0) (b := 0) (s := s) (q := q) ?_ rfl rfl rfl rfl
    rw [show 0 * 96 + 0 * 48 + s * 4 + q = s * 4 + q by omega, e1]
    refine And.intro (vp_in_nI (by omega) (by decide)) (nm_e ?_)
    rw [hE, gl_ulo (by omega)]
    exact h.2 w
  have Y40 : ∀ (P : Int32 → SY → Prop) ip', (nI j = 0 → P 1 (nI n, nI nv, nI na, nI np, nI (nv + na), nI (nv + na + 3 * np), sl, iS, 0, yC, yF, bo, nI c, yD, yA, yT, od, yB, yL, gl 96 ip' me, ki, fa, fb, yV, eS, oC, dC, yK, cP, cR, oL, oV, dT, dK)) → (¬ nI j = 0 → P 1 (nI n, nI nv, nI na, nI np, nI (nv + na), nI (nv + na + 3 * np), sl, iS, 0, yC, yF, bo, nI c, yD, yA, yT, od, yB, yL, gl 96 (upd ip' (48 + (s * 4 + q)) v4) me, ki, fa, fb, yV, eS, oC, dC, yK, cP, cR, oL, oV, dT, dK)) → wY_input_40 P (nI j) (nI s) (nI q) v4 (nI n) (nI nv) (nI na) (nI np) (nI (nv + na)) (nI (nv + na + 3 * np)) sl iS rS yC yF bo (nI c) yD yA yT od yB yL (gl 96 ip' me) ki fa fb yV eS oC dC yK cP cR oL oV dT dK := by
    intro P ip' a1 a2
    refine br_c (fun w => a1 w) (fun w => ?_)
    refine yw_idx (a := 0) (b := 1) (s := s) (q := q) ?_ rfl rfl rfl rfl
    rw [show 0 * 96 + 1 * 48 + s * 4 + q = 48 + (s * 4 + q) by omega, e3]
    refine And.intro (vp_in_nI (by omega) (by decide)) (nm_e ?_)
    rw [gl_ulo (by omega)]
    exact a2 w
  by_cases w1 : nI j = 1
  · refine br_t w1 ?_
    by_cases w0 : nI j = 0
    · rw [w0] at w1; exact absurd w1 (by decide)
    · refine br_f w0 ?_
      rw [e2, e3]
      refine And.intro i2 (nm_e (YA _ (br_t w1 ?_)))
      have q40 := Y40 (fun r' v' => r' = 1 ∧ i_Rel (k + 5) (nI n, nI nv, nI na, nI np, nI (nv + na), nI (nv + na + 3 * np), sl, bo, nI c, pt, iS, fc, 0, cT, aC, tk, od, jo, loB, hiB, ki, fa, fb, bf, ch, bs, ps, pb, pp, wS, wT, sB, tL, upd ip (48 + (s * 4 + q)) v4, me, eS, oC, oL, oV, dC, dT, dK, co, cP, cR, sE, eV) v') ip (fun z => absurd z w0) (fun _ => ⟨rfl, fin2 _⟩)
      rw [← hE] at q40
      exact q40
  · refine br_f w1 ?_
    rw [e1]
    refine And.intro i1 (nm_e ?_)
    by_cases w0 : nI j = 0
    · refine br_t w0 (YA _ (br_f w1 ?_))
      exact Y40 _ _ (fun _ => ⟨rfl, fin2 _⟩) (fun z => absurd w0 z)
    · refine br_f w0 ?_
      rw [e2, e3]
      refine And.intro i2 (nm_e (YA _ (br_f w1 ?_)))
      exact Y40 _ _ (fun z => absurd z w0) (fun _ => ⟨rfl, fin2 _⟩)
theorem i_vc_status {k : Nat} {u : SX} {v : SY} (I : i_Rel k u v) (hk : k + 5 ≤ 2564) (v1 : Int32) : wpX_status (fun r => wpY_status (fun r' => r' = r ∧ i_Rel (k + 5) u v) v v1) u v1 := by
  refine rl_el (P := fun u v => wpX_status (fun r => wpY_status (fun r' => r' = r ∧ i_Rel (k + 5) u v) v v1) u v1) ?_ I
  intro n nv na np c sl bo pt iS fc rS cT aC tk yC yF yD yA yT od jo loB hiB ki fa fb bf ch bs ps pb pp wS wT sB tL ip me eS oC oL oV dC dT dK co cP cR sE eV yB yL yE yV yK R
  obtain ⟨hsz, hod, hsl, hlat, hpg, hgl, hinf, hrun⟩ := R
  have hsz' := hsz
  obtain ⟨hn1, hn, hnv1, hnv, hna, hnp, hc⟩ := hsz'
  have fin : i_Rel (k + 5) (nI n, nI nv, nI na, nI np, nI (nv + na), nI (nv + na + 3 * np), sl, bo, nI c, pt, iS, fc, rS, cT, aC, tk, od, jo, loB, hiB, ki, fa, fb, bf, ch, bs, ps, pb, pp, wS, wT, sB, tL, ip, me, eS, oC, oL, oV, dC, dT, dK, co, cP, cR, sE, eV) (nI n, nI nv, nI na, nI np, nI (nv + na), nI (nv + na + 3 * np), sl, iS, rS, yC, yF, bo, nI c, yD, yA, yT, od, yB, yL, yE, ki, fa, fb, yV, eS, oC, dC, yK, cP, cR, oL, oV, dT, dK) := rl_mk ⟨hsz, hod, hsl, hlat, hpg, hgl, hinf, hrun⟩
  have P : ∀ r, r < 2 → v1 = nI r → wX_status_11 (fun r => wpY_status (fun r' => r' = r ∧ i_Rel (k + 5) (nI n, nI nv, nI na, nI np, nI (nv + na), nI (nv + na + 3 * np), sl, bo, nI c, pt, iS, fc, rS, cT, aC, tk, od, jo, loB, hiB, ki, fa, fb, bf, ch, bs, ps, pb, pp, wS, wT, sB, tL, ip, me, eS, oC, oL, oV, dC, dT, dK, co, cP, cR, sE, eV) (nI n, nI nv, nI na, nI np, nI (nv + na), nI (nv + na + 3 * np), sl, iS, rS, yC, yF, bo, nI c, yD, yA, yT, od, yB, yL, yE, ki, fa, fb, yV, eS, oC, dC, yK, cP, cR, oL, oV, dT, dK)) (nI n, nI nv, nI na, nI np, nI (nv + na), nI (nv + na + 3 * np), sl, iS, rS, yC, yF, bo, nI c, yD, yA, yT, od, yB, yL, yE, ki, fa, fb, yV, eS, oC, dC, yK, cP, cR, oL, oV, dT, dK) v1) v1 (nI n) (nI nv) (nI na) (nI np) (nI (nv + na)) (nI (nv + na + 3 * np)) sl bo (nI c) pt iS fc rS cT aC tk od jo loB hiB ki fa fb bf ch bs ps pb pp wS wT sB tL ip me eS oC oL oV dC dT dK co cP cR sE eV := by
    intro r hr er
    have iv : vp_in v1 2 := by rw [er]; exact vp_in_nI hr (by decide)
    have Y1 : ∀ x, ((rS = 0 → (0 : Int32) = x ∧ i_Rel (k + 5) (nI n, nI nv, nI na, nI np, nI (nv + na), nI (nv + na + 3 * np), sl, bo, nI c, pt, iS, fc, rS, cT, aC, tk, od, jo, loB, hiB, ki, fa, fb, bf, ch, bs, ps, pb, pp, wS, wT, sB, tL, ip, me, eS, oC, oL, oV, dC, dT, dK, co, cP, cR, sE, eV) (nI n, nI nv, nI na, nI np, nI (nv + na), nI (nv + na + 3 * np), sl, iS, rS, yC, yF, bo, nI c, yD, yA, yT, od, yB, yL, yE, ki, fa, fb, yV, eS, oC, dC, yK, cP, cR, oL, oV, dT, dK)) ∧ (¬ rS = 0 → (vp_in v1 2 ∧ (eS v1.toNatClampNeg = x ∧ i_Rel (k + 5) (nI n, nI nv, nI na, nI np, nI (nv + na), nI (nv + na + 3 * np), sl, bo, nI c, pt, iS, fc, rS, cT, aC, tk, od, jo, loB, hiB, ki, fa, fb, bf, ch, bs, ps, pb, pp, wS, wT, sB, tL, ip, me, eS, oC, oL, oV, dC, dT, dK, co, cP, cR, sE, eV) (nI n, nI nv, nI na, nI np, nI (nv + na), nI (nv + na + 3 * np), sl, iS, rS, yC, yF, bo, nI c, yD, yA, yT, od, yB, yL, yE, ki, fa, fb, yV, eS, oC, dC, yK, cP, cR, oL, oV, dT, dK))))) → wpY_status (fun r' => r' = x ∧ i_Rel (k + 5) (nI n, nI nv, nI na, nI np, nI (nv + na), nI (nv + na + 3 * np), sl, bo, nI c, pt, iS, fc, rS, cT, aC, tk, od, jo, loB, hiB, ki, fa, fb, bf, ch, bs, ps, pb, pp, wS, wT, sB, tL, ip, me, eS, oC, oL, oV, dC, dT, dK, co, cP, cR, sE, eV) (nI n, nI nv, nI na, nI np, nI (nv + na), nI (nv + na + 3 * np), sl, iS, rS, yC, yF, bo, nI c, yD, yA, yT, od, yB, yL, yE, ki, fa, fb, yV, eS, oC, dC, yK, cP, cR, oL, oV, dT, dK)) (nI n, nI nv, nI na, nI np, nI (nv + na), nI (nv + na + 3 * np), sl, iS, rS, yC, yF, bo, nI c, yD, yA, yT, od, yB, yL, yE, ki, fa, fb, yV, eS, oC, dC, yK, cP, cR, oL, oV, dT, dK) v1 := by
      intro x h
      unfold wpY_status
      dsimp only
      exact yw_in v1 (k := 2) (by decide) (fun _ _ _ => br_f (by decide) h) (fun z => absurd ⟨r, hr, er⟩ (bz_nr (by decide) z)) rfl
    by_cases w : rS = 0
    · exact br_t w (Y1 _ (br_t w ⟨rfl, fin⟩))
    · exact br_f w ⟨iv, Y1 _ (br_f w ⟨iv, rfl, fin⟩)⟩
  by_cases z0 : v1 = 0
  · exact br_t z0 (P 0 (by decide) z0)
  by_cases z1 : v1 = 1
  · exact br_f z0 (br_t z1 (P 1 (by decide) z1))
  refine br_f z0 (br_f z1 ?_)
  unfold wpY_status
  dsimp only
  refine yw_in v1 (k := 2) (by decide) (fun i hi ei => ?_) (fun _ => br_t rfl ⟨rfl, fin⟩) rfl
  have : i = 0 ∨ i = 1 := by omega
  rcases this with w | w <;> subst w
  · exact absurd ei z0
  · exact absurd ei z1
theorem i_vc_output {k : Nat} {u : SX} {v : SY} (I : i_Rel k u v) (hk : k + 5 ≤ 2564) (v1 : Int32) (v2 : Int32) (v3 : Int32) : wpX_output (fun r => wpY_output (fun r' => r' = r ∧ i_Rel (k + 5) u v) v v1 v2 v3) u v1 v2 v3 := by
  refine rl_el (P := fun u v => wpX_output (fun r => wpY_output (fun r' => r' = r ∧ i_Rel (k + 5) u v) v v1 v2 v3) u v1 v2 v3) ?_ I
  intro n nv na np c sl bo pt iS fc rS cT aC tk yC yF yD yA yT od jo loB hiB ki fa fb bf ch bs ps pb pp wS wT sB tL ip me eS oC oL oV dC dT dK co cP cR sE eV yB yL yE yV yK R
  obtain ⟨hsz, hod, hsl, hlat, hpg, hgl, hinf, hrun⟩ := R
  have hsz' := hsz
  obtain ⟨hn1, hn, hnv1, hnv, hna, hnp, hc⟩ := hsz'
  have fin : i_Rel (k + 5) (nI n, nI nv, nI na, nI np, nI (nv + na), nI (nv + na + 3 * np), sl, bo, nI c, pt, iS, fc, rS, cT, aC, tk, od, jo, loB, hiB, ki, fa, fb, bf, ch, bs, ps, pb, pp, wS, wT, sB, tL, ip, me, eS, oC, oL, oV, dC, dT, dK, co, cP, cR, sE, eV) (nI n, nI nv, nI na, nI np, nI (nv + na), nI (nv + na + 3 * np), sl, iS, rS, yC, yF, bo, nI c, yD, yA, yT, od, yB, yL, yE, ki, fa, fb, yV, eS, oC, dC, yK, cP, cR, oL, oV, dT, dK) := rl_mk ⟨hsz, hod, hsl, hlat, hpg, hgl, hinf, hrun⟩
  rcases hrun with w | ⟨w, hs, hd, hr⟩
  · exact br_t w (br_t w ⟨rfl, fin⟩)
  have w0 : ¬ rS = 0 := by rw [w]; decide
  refine br_f w0 ?_
  have P : ∀ r, r < 2 → v1 = nI r → wX_output_18 (fun r => wpY_output (fun r' => r' = r ∧ i_Rel (k + 5) (nI n, nI nv, nI na, nI np, nI (nv + na), nI (nv + na + 3 * np), sl, bo, nI c, pt, iS, fc, rS, cT, aC, tk, od, jo, loB, hiB, ki, fa, fb, bf, ch, bs, ps, pb, pp, wS, wT, sB, tL, ip, me, eS, oC, oL, oV, dC, dT, dK, co, cP, cR, sE, eV) (nI n, nI nv, nI na, nI np, nI (nv + na), nI (nv + na + 3 * np), sl, iS, rS, yC, yF, bo, nI c, yD, yA, yT, od, yB, yL, yE, ki, fa, fb, yV, eS, oC, dC, yK, cP, cR, oL, oV, dT, dK)) (nI n, nI nv, nI na, nI np, nI (nv + na), nI (nv + na + 3 * np), sl, iS, rS, yC, yF, bo, nI c, yD, yA, yT, od, yB, yL, yE, ki, fa, fb, yV, eS, oC, dC, yK, cP, cR, oL, oV, dT, dK) v1 v2 v3) v1 v2 v3 (nI n) (nI nv) (nI na) (nI np) (nI (nv + na)) (nI (nv + na + 3 * np)) sl bo (nI c) pt iS fc rS cT aC tk od jo loB hiB ki fa fb bf ch bs ps pb pp wS wT sB tL ip me eS oC oL oV dC dT dK co cP cR sE eV := by
    intro r hr2 er
    subst er
    obtain ⟨o, d, ho, eo, hd, ed, hl⟩ := hr r hr2
    have iv : vp_in (nI r) 2 := vp_in_nI hr2 (by decide)
    have e16 : ∀ q, nI r * 16 + nI q = nI (r * 16 + q) := fun q => by rw [show (16 : Int32) = nI 16 from rfl, pk_mul, nI_add]
    have Y1 : ∀ x, wpY_in (fun r_38 => ((r_38 = 0 → (-1 : Int32) = x ∧ i_Rel (k + 5) (nI n, nI nv, nI na, nI np, nI (nv + na), nI (nv + na + 3 * np), sl, bo, nI c, pt, iS, fc, rS, cT, aC, tk, od, jo, loB, hiB, ki, fa, fb, bf, ch, bs, ps, pb, pp, wS, wT, sB, tL, ip, me, eS, oC, oL, oV, dC, dT, dK, co, cP, cR, sE, eV) (nI n, nI nv, nI na, nI np, nI (nv + na), nI (nv + na + 3 * np), sl, iS, rS, yC, yF, bo, nI c, yD, yA, yT, od, yB, yL, yE, ki, fa, fb, yV, eS, oC, dC, yK, cP, cR, oL, oV, dT, dK)) ∧ (¬ r_38 = 0 → (vp_in (nI r) 2 ∧ wpY_in (fun r_75 => ((r_75 = 0 → (-1 : Int32) = x ∧ i_Rel (k + 5) (nI n, nI nv, nI na, nI np, nI (nv + na), nI (nv + na + 3 * np), sl, bo, nI c, pt, iS, fc, rS, cT, aC, tk, od, jo, loB, hiB, ki, fa, fb, bf, ch, bs, ps, pb, pp, wS, wT, sB, tL, ip, me, eS, oC, oL, oV, dC, dT, dK, co, cP, cR, sE, eV) (nI n, nI nv, nI na, nI np, nI (nv + na), nI (nv + na + 3 * np), sl, iS, rS, yC, yF, bo, nI c, yD, yA, yT, od, yB, yL, yE, ki, fa, fb, yV, eS, oC, dC, yK, cP, cR, oL, oV, dT, dK)) ∧ (¬ r_75 = 0 → ((v3 = 0 → (vp_in (nI r * 16 + v2) 32 ∧ (oL (nI r * 16 + v2).toNatClampNeg = x ∧ i_Rel (k + 5) (nI n, nI nv, nI na, nI np, nI (nv + na), nI (nv + na + 3 * np), sl, bo, nI c, pt, iS, fc, rS, cT, aC, tk, od, jo, loB, hiB, ki, fa, fb, bf, ch, bs, ps, pb, pp, wS, wT, sB, tL, ip, me, eS, oC, oL, oV, dC, dT, dK, co, cP, cR, sE, eV) (nI n, nI nv, nI na, nI np, nI (nv + na), nI (nv + na + 3 * np), sl, iS, rS, yC, yF, bo, nI c, yD, yA, yT, od, yB, yL, yE, ki, fa, fb, yV, eS, oC, dC, yK, cP, cR, oL, oV, dT, dK)))) ∧ (¬ v3 = 0 → (vp_in (nI r * 16 + v2) 32 ∧ (oV (nI r * 16 + v2).toNatClampNeg = x ∧ i_Rel (k + 5) (nI n, nI nv, nI na, nI np, nI (nv + na), nI (nv + na + 3 * np), sl, bo, nI c, pt, iS, fc, rS, cT, aC, tk, od, jo, loB, hiB, ki, fa, fb, bf, ch, bs, ps, pb, pp, wS, wT, sB, tL, ip, me, eS, oC, oL, oV, dC, dT, dK, co, cP, cR, sE, eV) (nI n, nI nv, nI na, nI np, nI (nv + na), nI (nv + na + 3 * np), sl, iS, rS, yC, yF, bo, nI c, yD, yA, yT, od, yB, yL, yE, ki, fa, fb, yV, eS, oC, dC, yK, cP, cR, oL, oV, dT, dK)))))))) (nI n, nI nv, nI na, nI np, nI (nv + na), nI (nv + na + 3 * np), sl, iS, rS, yC, yF, bo, nI c, yD, yA, yT, od, yB, yL, yE, ki, fa, fb, yV, eS, oC, dC, yK, cP, cR, oL, oV, dT, dK) v2 (oC (nI r).toNatClampNeg))))) (nI n, nI nv, nI na, nI np, nI (nv + na), nI (nv + na + 3 * np), sl, iS, rS, yC, yF, bo, nI c, yD, yA, yT, od, yB, yL, yE, ki, fa, fb, yV, eS, oC, dC, yK, cP, cR, oL, oV, dT, dK) v3 2 → wpY_output (fun r' => r' = x ∧ i_Rel (k + 5) (nI n, nI nv, nI na, nI np, nI (nv + na), nI (nv + na + 3 * np), sl, bo, nI c, pt, iS, fc, rS, cT, aC, tk, od, jo, loB, hiB, ki, fa, fb, bf, ch, bs, ps, pb, pp, wS, wT, sB, tL, ip, me, eS, oC, oL, oV, dC, dT, dK, co, cP, cR, sE, eV) (nI n, nI nv, nI na, nI np, nI (nv + na), nI (nv + na + 3 * np), sl, iS, rS, yC, yF, bo, nI c, yD, yA, yT, od, yB, yL, yE, ki, fa, fb, yV, eS, oC, dC, yK, cP, cR, oL, oV, dT, dK)) (nI n, nI nv, nI na, nI np, nI (nv + na), nI (nv + na + 3 * np), sl, iS, rS, yC, yF, bo, nI c, yD, yA, yT, od, yB, yL, yE, ki, fa, fb, yV, eS, oC, dC, yK, cP, cR, oL, oV, dT, dK) (nI r) v2 v3 := by
      intro x h
      refine br_f w0 ?_
      exact yw_in (nI r) (k := 2) (by decide) (fun _ _ _ => br_f (by decide) h) (fun z => absurd ⟨r, hr2, rfl⟩ (bz_nr (by decide) z)) rfl
    rw [nI_clamp (n := r) (by omega), eo] at Y1
    refine And.intro iv ?_
    rw [nI_clamp (n := r) (by omega), eo]
    refine xw_in v2 (k := o) (by omega) (fun q hq eq => br_f (by decide) ?_) (fun z => br_t rfl (Y1 _ ?_)) rfl
    · subst eq
      rw [e16] at Y1 ⊢
      have iq : vp_in (nI (r * 16 + q)) 32 := vp_in_nI (by omega) (by decide)
      by_cases z0 : v3 = 0
      · refine br_t z0 (And.intro iq (Y1 _ ?_))
        refine yw_in v3 (k := 2) (by decide) (fun _ _ _ => br_f (by decide) (And.intro iv ?_)) (fun z => absurd ⟨0, by decide, z0⟩ (bz_nr (by decide) z)) rfl
        exact yw_in (nI q) (k := o) (by omega) (fun _ _ _ => br_f (by decide) (br_t z0 ⟨iq, rfl, fin⟩)) (fun z => absurd ⟨q, hq, rfl⟩ (bz_nr (by omega) z)) rfl
      by_cases z1 : v3 = 1
      · refine br_f z0 (br_t z1 (And.intro iq (Y1 _ ?_)))
        refine yw_in v3 (k := 2) (by decide) (fun _ _ _ => br_f (by decide) (And.intro iv ?_)) (fun z => absurd ⟨1, by decide, z1⟩ (bz_nr (by decide) z)) rfl
        exact yw_in (nI q) (k := o) (by omega) (fun _ _ _ => br_f (by decide) (br_f z0 ⟨iq, rfl, fin⟩)) (fun z => absurd ⟨q, hq, rfl⟩ (bz_nr (by omega) z)) rfl
      · refine br_f z0 (br_f z1 (Y1 _ ?_))
        refine yw_in v3 (k := 2) (by decide) (fun i hi ei => ?_) (fun z => br_t rfl ⟨rfl, fin⟩) rfl
        have : i = 0 ∨ i = 1 := by omega
        rcases this with w | w <;> subst w
        · exact absurd ei z0
        · exact absurd ei z1
    · refine yw_in v3 (k := 2) (by decide) (fun _ _ _ => br_f (by decide) (And.intro iv ?_)) (fun z => br_t rfl ⟨rfl, fin⟩) rfl
      exact yw_in v2 (k := o) (by omega) (fun q hq eq => absurd ⟨q, hq, eq⟩ (bz_nr (by omega) z)) (fun _ => br_t rfl ⟨rfl, fin⟩) rfl
  by_cases z0 : v1 = 0
  · exact br_t z0 (P 0 (by decide) z0)
  by_cases z1 : v1 = 1
  · exact br_f z0 (br_t z1 (P 1 (by decide) z1))
  refine br_f z0 (br_f z1 (br_f w0 ?_))
  refine yw_in v1 (k := 2) (by decide) (fun i hi ei => ?_) (fun _ => br_t rfl ⟨rfl, fin⟩) rfl
  have : i = 0 ∨ i = 1 := by omega
  rcases this with w | w <;> subst w
  · exact absurd ei z0
  · exact absurd ei z1
end
section
/-! owed: value, divergence -/
section
variable {n nv na np c : Nat} {sl iS rS yC yF bo yD yA yT : Int32} {od yB yL yE ki fa fb yV eS oC dC yK cP cR oL oV dT dK : Nat → Int32}
theorem yw_val (hnv : nv ≤ 8) (hna : na ≤ 4) {w r : Nat} (hw : w < 2) (hr : r < 2) {x y : Int32} {post : Int32 → Prop} (h1 : ∀ s q, ic_is nv na x y s q → (w = 1 → ¬ rS = 0) → post (yE (w * 96 + r * 48 + s * 4 + q))) (h0 : ((∀ s q, ¬ ic_is nv na x y s q) ∨ (w = 1 ∧ rS = 0)) → post 0) {p0 p1 : Int32} (hp0 : p0 = nI w) (hp1 : p1 = nI r) : wpY_value post (nI n, nI nv, nI na, nI np, nI (nv + na), nI (nv + na + 3 * np), sl, iS, rS, yC, yF, bo, nI c, yD, yA, yT, od, yB, yL, yE, ki, fa, fb, yV, eS, oC, dC, yK, cP, cR, oL, oV, dT, dK) p0 p1 x y := by
  subst hp0 hp1
  unfold wpY_value
  dsimp only
  refine yw_in (nI w) (k := 2) (by decide) (fun _ _ _ => br_f (by decide) ?_) (fun z => absurd ⟨w, hw, rfl⟩ (bz_nr (by decide) z)) rfl
  refine yw_in (nI r) (k := 2) (by decide) (fun _ _ _ => br_f (by decide) ?_) (fun z => absurd ⟨r, hr, rfl⟩ (bz_nr (by decide) z)) rfl
  refine yw_ic hnv hna (fun s q hic => br_f (by decide) ?_) (fun z => br_t rfl (h0 (Or.inl z)))
  obtain ⟨rfl, rfl, hs, hq, hsq⟩ := hic
  have go : (w = 1 → ¬ rS = 0) → wY_value_44 post (nI w) (nI r) (nI s) (nI q) (nI n) (nI nv) (nI na) (nI np) (nI (nv + na)) (nI (nv + na + 3 * np)) sl iS rS yC yF bo (nI c) yD yA yT od yB yL yE ki fa fb yV eS oC dC yK cP cR oL oV dT dK := by
    intro z
    refine yw_idx (a := w) (b := r) (s := s) (q := q) ?_ rfl rfl rfl rfl
    rw [nI_clamp (n := w * 96 + r * 48 + s * 4 + q) (by omega)]
    exact And.intro (vp_in_nI (by omega) (by decide)) (h1 s q ⟨rfl, rfl, hs, hq, hsq⟩ z)
  refine pk_eq w 1 (fun e => ?_) (fun e => go (fun z => absurd z e)) rfl rfl (by omega) (by omega)
  exact br_c (fun z => h0 (Or.inr ⟨e, z⟩)) (fun z => go (fun _ => z))
end
theorem i_vc_value {k : Nat} {u : SX} {v : SY} (I : i_Rel k u v) (hk : k + 5 ≤ 2564) (v1 : Int32) (v2 : Int32) (v3 : Int32) (v4 : Int32) : wpX_value (fun r => wpY_value (fun r' => r' = r ∧ i_Rel (k + 5) u v) v v1 v2 v3 v4) u v1 v2 v3 v4 := by
  refine rl_el (P := fun u v => wpX_value (fun r => wpY_value (fun r' => r' = r ∧ i_Rel (k + 5) u v) v v1 v2 v3 v4) u v1 v2 v3 v4) ?_ I
  intro n nv na np c sl bo pt iS fc rS cT aC tk yC yF yD yA yT od jo loB hiB ki fa fb bf ch bs ps pb pp wS wT sB tL ip me eS oC oL oV dC dT dK co cP cR sE eV yB yL yE yV yK R
  obtain ⟨hsz, hod, hsl, hlat, hpg, hgl, hinf, hrun⟩ := R
  have hsz' := hsz
  obtain ⟨hn1, hn, hnv1, hnv, hna, hnp, hc⟩ := hsz'
  have fin : i_Rel (k + 5) (nI n, nI nv, nI na, nI np, nI (nv + na), nI (nv + na + 3 * np), sl, bo, nI c, pt, iS, fc, rS, cT, aC, tk, od, jo, loB, hiB, ki, fa, fb, bf, ch, bs, ps, pb, pp, wS, wT, sB, tL, ip, me, eS, oC, oL, oV, dC, dT, dK, co, cP, cR, sE, eV) (nI n, nI nv, nI na, nI np, nI (nv + na), nI (nv + na + 3 * np), sl, iS, rS, yC, yF, bo, nI c, yD, yA, yT, od, yB, yL, yE, ki, fa, fb, yV, eS, oC, dC, yK, cP, cR, oL, oV, dT, dK) := rl_mk ⟨hsz, hod, hsl, hlat, hpg, hgl, hinf, hrun⟩
  have hE := hgl.2
  have P : ∀ r, r < 2 → v2 = nI r → wX_value_11 (fun r => wpY_value (fun r' => r' = r ∧ i_Rel (k + 5) (nI n, nI nv, nI na, nI np, nI (nv + na), nI (nv + na + 3 * np), sl, bo, nI c, pt, iS, fc, rS, cT, aC, tk, od, jo, loB, hiB, ki, fa, fb, bf, ch, bs, ps, pb, pp, wS, wT, sB, tL, ip, me, eS, oC, oL, oV, dC, dT, dK, co, cP, cR, sE, eV) (nI n, nI nv, nI na, nI np, nI (nv + na), nI (nv + na + 3 * np), sl, iS, rS, yC, yF, bo, nI c, yD, yA, yT, od, yB, yL, yE, ki, fa, fb, yV, eS, oC, dC, yK, cP, cR, oL, oV, dT, dK)) (nI n, nI nv, nI na, nI np, nI (nv + na), nI (nv + na + 3 * np), sl, iS, rS, yC, yF, bo, nI c, yD, yA, yT, od, yB, yL, yE, ki, fa, fb, yV, eS, oC, dC, yK, cP, cR, oL, oV, dT, dK) v1 v2 v3 v4) v1 v2 v3 v4 (nI n) (nI nv) (nI na) (nI np) (nI (nv + na)) (nI (nv + na + 3 * np)) sl bo (nI c) pt iS fc rS cT aC tk od jo loB hiB ki fa fb bf ch bs ps pb pp wS wT sB tL ip me eS oC oL oV dC dT dK co cP cR sE eV := by
    intro r hr er
    subst er
    unfold wX_value_11
    refine xw_cp hnv hna (fun s q hic => ?_) (fun z => br_f (by decide) ?_)
    · have hs := hic.2.2.1
      have hq := hic.2.2.2.1
      have e1 : nI r * 48 + nI (s * 4 + q) = nI (r * 48 + (s * 4 + q)) := bz_48 _ _
      have e2 : (nI (r * 48 + (s * 4 + q))).toNatClampNeg = r * 48 + (s * 4 + q) := nI_clamp (by omega)
      have iv : vp_in (nI (r * 48 + (s * 4 + q))) 96 := vp_in_nI (by omega) (by decide)
      refine br_t (nI_pos' (by omega)) ?_
      rw [e1, e2]
      by_cases z0 : v1 = 0
      · refine br_t z0 (And.intro iv ?_)
        refine yw_val (w := 0) hnv hna (by decide) hr (fun s' q' hic' _ => ?_) (fun z => ?_) z0 rfl
        · refine ⟨?_, fin⟩
          obtain ⟨a, b⟩ := ic_u hnv hna hic hic'
          subst a; subst b
          rw [hE, show 0 * 96 + r * 48 + s * 4 + q = r * 48 + (s * 4 + q) by omega, gl_lo (by omega)]
        · rcases z with z | z
          · exact absurd hic (z s q)
          · omega
      by_cases z1 : v1 = 1
      · refine br_f z0 (br_t z1 ?_)
        by_cases w : rS = 0
        · refine br_t w ?_
          exact yw_val (w := 1) hnv hna (by decide) hr (fun s' q' hic' z => absurd w (z rfl)) (fun z => ⟨rfl, fin⟩) z1 rfl
        · refine br_f w (And.intro iv ?_)
          refine yw_val (w := 1) hnv hna (by decide) hr (fun s' q' hic' _ => ?_) (fun z => ?_) z1 rfl
          · refine ⟨?_, fin⟩
            obtain ⟨a, b⟩ := ic_u hnv hna hic hic'
            subst a; subst b
            rw [hE, show 1 * 96 + r * 48 + s * 4 + q = 96 + (r * 48 + (s * 4 + q)) by omega, gl_hi]
          · rcases z with z | z
            · exact absurd hic (z s q)
            · exact absurd z.2 w
      · refine br_f z0 (br_f z1 ?_)
        unfold wpY_value
        dsimp only
        refine yw_in v1 (k := 2) (by decide) (fun i hi ei => ?_) (fun _ => br_t rfl ⟨rfl, fin⟩) rfl
        have : i = 0 ∨ i = 1 := by omega
        rcases this with w | w <;> subst w
        · exact absurd ei z0
        · exact absurd ei z1
    · unfold wpY_value
      dsimp only
      refine yw_in v1 (k := 2) (by decide) (fun i hi ei => br_f (by decide) ?_) (fun _ => br_t rfl ⟨rfl, fin⟩) rfl
      refine yw_in (nI r) (k := 2) (by decide) (fun _ _ _ => br_f (by decide) ?_) (fun z => absurd ⟨r, hr, rfl⟩ (bz_nr (by decide) z)) rfl
      exact yw_ic hnv hna (fun s q w => absurd w (z s q)) (fun _ => br_t rfl ⟨rfl, fin⟩)
  by_cases z0 : v2 = 0
  · exact br_t z0 (P 0 (by decide) z0)
  by_cases z1 : v2 = 1
  · exact br_f z0 (br_t z1 (P 1 (by decide) z1))
  refine br_f z0 (br_f z1 ?_)
  unfold wpY_value
  dsimp only
  refine yw_in v1 (k := 2) (by decide) (fun i hi ei => br_f (by decide) ?_) (fun _ => br_t rfl ⟨rfl, fin⟩) rfl
  refine yw_in v2 (k := 2) (by decide) (fun i hi ei => ?_) (fun _ => br_t rfl ⟨rfl, fin⟩) rfl
  have : i = 0 ∨ i = 1 := by omega
  rcases this with w | w <;> subst w
  · exact absurd ei z0
  · exact absurd ei z1
section
variable {n nv na np c : Nat} {sl bo pt iS fc rS cT aC tk : Int32} {od jo loB hiB ki fa fb bf ch bs ps pb pp wS wT sB tL ip me eS oC oL oV dC dT dK co cP cR sE eV : Nat → Int32} {yC yF yD yA yT : Int32} {yB yL yE yV yK : Nat → Int32}
/-- both search the decisions alike -/
theorem dv_lock {d0 d1 : Nat} (h0 : d0 ≤ 200) (h1 : d1 ≤ 200) (e0 : dC 0 = nI d0) (e1 : dC 1 = nI d1) : ∀ f i, i + f = 200 → ∃ r : Int32, (∀ (post : Int32 → Prop) m, f < m → post r → wX_divergence_11 post (nI n) (nI nv) (nI na) (nI np) (nI (nv + na)) (nI (nv + na + 3 * np)) sl bo (nI c) pt iS fc rS cT aC tk od jo loB hiB ki fa fb bf ch bs ps pb pp wS wT sB tL ip me eS oC oL oV dC dT dK co cP cR sE eV m (nI i)) ∧ (∀ (post : Int32 → Prop) m, f < m → post r → wY_divergence_11 post (nI n) (nI nv) (nI na) (nI np) (nI (nv + na)) (nI (nv + na + 3 * np)) sl iS rS yC yF bo (nI c) yD yA yT od yB yL yE ki fa fb yV eS oC dC yK cP cR oL oV dT dK m (nI i)) := by
  intro f
  induction f with
  | zero =>
    intro i hf
    have e : i = 200 := by omega
    subst e
    refine ⟨-2, fun post m hm hp => ?_, fun post m hm hp => ?_⟩
    · obtain ⟨m, rfl⟩ : ∃ e, m = e + 1 := ⟨m - 1, by omega⟩
      exact br_t (by rw [e0]; exact nI_le h0 (by decide)) hp
    · obtain ⟨m, rfl⟩ : ∃ e, m = e + 1 := ⟨m - 1, by omega⟩
      exact br_t (by decide) hp
  | succ f ih =>
    intro i hf
    have hi : ¬ (200 : Int32) ≤ nI i := nI_ge (b := 200) (by omega) (by decide)
    by_cases w0 : d0 ≤ i
    · have z0 : dC 0 ≤ nI i := by rw [e0]; exact nI_le w0 (by omega)
      refine ⟨-2, fun post m hm hp => ?_, fun post m hm hp => ?_⟩
      · obtain ⟨m, rfl⟩ : ∃ e, m = e + 1 := ⟨m - 1, by omega⟩
        exact br_t z0 hp
      · obtain ⟨m, rfl⟩ : ∃ e, m = e + 1 := ⟨m - 1, by omega⟩
        exact br_f hi (br_t z0 hp)
    have z0 : ¬ dC 0 ≤ nI i := by rw [e0]; exact nI_ge (by omega) (by omega)
    by_cases w1 : d1 ≤ i
    · have z1 : dC 1 ≤ nI i := by rw [e1]; exact nI_le w1 (by omega)
      refine ⟨-2, fun post m hm hp => ?_, fun post m hm hp => ?_⟩
      · obtain ⟨m, rfl⟩ : ∃ e, m = e + 1 := ⟨m - 1, by omega⟩
        exact br_f z0 (br_t z1 hp)
      · obtain ⟨m, rfl⟩ : ∃ e, m = e + 1 := ⟨m - 1, by omega⟩
        exact br_f hi (br_f z0 (br_t z1 hp))
    have z1 : ¬ dC 1 ≤ nI i := by rw [e1]; exact nI_ge (by omega) (by omega)
    have i1 : vp_in (nI i) 400 := vp_in_nI (by omega) (by decide)
    have i2 : vp_in ((200 : Int32) + nI i) 400 := by rw [show (200 : Int32) = nI 200 from rfl, nI_add]; exact vp_in_nI (by omega) (by decide)
    by_cases w : dK (nI i).toNatClampNeg = dK ((200 : Int32) + nI i).toNatClampNeg
    · obtain ⟨r, hX, hY⟩ := ih (i + 1) (by omega)
      refine ⟨r, fun post m hm hp => ?_, fun post m hm hp => ?_⟩
      · obtain ⟨m, rfl⟩ : ∃ e, m = e + 1 := ⟨m - 1, by omega⟩
        exact br_f z0 (br_f z1 (And.intro i1 (And.intro i2 (br_t w (nm_r (nI_1 i) (hX post m (by omega) hp))))))
      · obtain ⟨m, rfl⟩ : ∃ e, m = e + 1 := ⟨m - 1, by omega⟩
        exact br_f hi (br_f z0 (br_f z1 (And.intro i1 (And.intro i2 (br_t w (nm_r (nI_1 i) (hY post m (by omega) hp)))))))
    · refine ⟨dT (nI i).toNatClampNeg, fun post m hm hp => ?_, fun post m hm hp => ?_⟩
      · obtain ⟨m, rfl⟩ : ∃ e, m = e + 1 := ⟨m - 1, by omega⟩
        exact br_f z0 (br_f z1 (And.intro i1 (And.intro i2 (br_f w (And.intro i1 hp)))))
      · obtain ⟨m, rfl⟩ : ∃ e, m = e + 1 := ⟨m - 1, by omega⟩
        exact br_f hi (br_f z0 (br_f z1 (And.intro i1 (And.intro i2 (br_f w (And.intro i1 hp))))))
end
theorem i_vc_divergence {k : Nat} {u : SX} {v : SY} (I : i_Rel k u v) (hk : k + 5 ≤ 2564) : wpX_divergence (fun r => wpY_divergence (fun r' => r' = r ∧ i_Rel (k + 5) u v) v) u := by
  refine rl_el (P := fun u v => wpX_divergence (fun r => wpY_divergence (fun r' => r' = r ∧ i_Rel (k + 5) u v) v) u) ?_ I
  intro n nv na np c sl bo pt iS fc rS cT aC tk yC yF yD yA yT od jo loB hiB ki fa fb bf ch bs ps pb pp wS wT sB tL ip me eS oC oL oV dC dT dK co cP cR sE eV yB yL yE yV yK R
  obtain ⟨hsz, hod, hsl, hlat, hpg, hgl, hinf, hrun⟩ := R
  have hsz' := hsz
  obtain ⟨hn1, hn, hnv1, hnv, hna, hnp, hc⟩ := hsz'
  have fin : i_Rel (k + 5) (nI n, nI nv, nI na, nI np, nI (nv + na), nI (nv + na + 3 * np), sl, bo, nI c, pt, iS, fc, rS, cT, aC, tk, od, jo, loB, hiB, ki, fa, fb, bf, ch, bs, ps, pb, pp, wS, wT, sB, tL, ip, me, eS, oC, oL, oV, dC, dT, dK, co, cP, cR, sE, eV) (nI n, nI nv, nI na, nI np, nI (nv + na), nI (nv + na + 3 * np), sl, iS, rS, yC, yF, bo, nI c, yD, yA, yT, od, yB, yL, yE, ki, fa, fb, yV, eS, oC, dC, yK, cP, cR, oL, oV, dT, dK) := rl_mk ⟨hsz, hod, hsl, hlat, hpg, hgl, hinf, hrun⟩
  rcases hrun with w | ⟨w, hs, hd, hr⟩
  · exact br_t w (br_t w ⟨rfl, fin⟩)
  have w0 : ¬ rS = 0 := by rw [w]; decide
  obtain ⟨_, d0, _, _, hd0, ed0, _⟩ := hr 0 (by decide)
  obtain ⟨_, d1, _, _, hd1, ed1, _⟩ := hr 1 (by decide)
  obtain ⟨r, hX, hY⟩ := dv_lock (n := n) (nv := nv) (na := na) (np := np) (c := c) (sl := sl) (bo := bo) (pt := pt) (iS := iS) (fc := fc) (rS := rS) (cT := cT) (aC := aC) (tk := tk) (yC := yC) (yF := yF) (yD := yD) (yA := yA) (yT := yT) (od := od) (jo := jo) (loB := loB) (hiB := hiB) (ki := ki) (fa := fa) (fb := fb) (bf := bf) (ch := ch) (bs := bs) (ps := ps) (pb := pb) (pp := pp) (wS := wS) (wT := wT) (sB := sB) (tL := tL) (ip := ip) (me := me) (eS := eS) (oC := oC) (oL := oL) (oV := oV) (dC := dC) (dT := dT) (dK := dK) (co := co) (cP := cP) (cR := cR) (sE := sE) (eV := eV) (yB := yB) (yL := yL) (yE := yE) (yV := yV) (yK := yK) hd0 hd1 ed0 ed1 200 0 (by decide)
  exact br_f w0 ⟨201, hX _ 201 (by decide) (br_f w0 ⟨201, hY _ 201 (by decide) ⟨rfl, fin⟩⟩)⟩
end
section
/-! firstDifference -/
def vs_V (od oL : Nat → Int32) (r ob i : Nat) : Prop := ¬ od (kn oL (r * 16 + i) * 8 + ob) = 0
def vs_N (V : Nat → Prop) (o p i : Nat) : Prop := (p ≤ i ∧ i < o ∧ V i ∧ ∀ t, p ≤ t → t < i → ¬ V t) ∨ (i = o ∧ ∀ t, p ≤ t → t < o → ¬ V t)
def vs_R (V : Nat → Prop) (o : Nat) : Nat → Nat → Nat → Prop
  | 0, p, i => vs_N V o p i
  | m + 1, p, i => ∃ j, vs_N V o p j ∧ vs_R V o m (j + 1) i
section
variable {V : Nat → Prop} {o : Nat}
theorem vs_ex : ∀ f p, o - p ≤ f → ∃ i, vs_N V o p i := by
  intro f
  induction f with
  | zero => intro p h; exact ⟨o, Or.inr ⟨rfl, fun t h1 h2 => by omega⟩⟩
  | succ f ih =>
    intro p h
    by_cases hp : o ≤ p
    · exact ⟨o, Or.inr ⟨rfl, fun t h1 h2 => by omega⟩⟩
    by_cases hv : V p
    · exact ⟨p, Or.inl ⟨Nat.le_refl _, by omega, hv, fun t h1 h2 => by omega⟩⟩
    · obtain ⟨i, hi⟩ := ih (p + 1) (by omega)
      refine ⟨i, ?_⟩
      rcases hi with ⟨a, b, c, d⟩ | ⟨a, b⟩
      · refine Or.inl ⟨by omega, b, c, fun t h1 h2 => ?_⟩
        by_cases e : t = p
        · rw [e]; exact hv
        · exact d t (by omega) h2
      · refine Or.inr ⟨a, fun t h1 h2 => ?_⟩
        by_cases e : t = p
        · rw [e]; exact hv
        · exact b t (by omega) h2
theorem vs_le {p i : Nat} (h : vs_N V o p i) : i ≤ o := by
  rcases h with ⟨_, h, _⟩ | ⟨h, _⟩ <;> omega
theorem vs_skip {p i : Nat} (hv : ¬ V p) (h : vs_N V o p i) : vs_N V o (p + 1) i := by
  rcases h with ⟨a, b, c, d⟩ | ⟨a, b⟩
  · have : p ≠ i := fun e => hv (e ▸ c)
    exact Or.inl ⟨by omega, b, c, fun t h1 h2 => d t (by omega) h2⟩
  · exact Or.inr ⟨a, fun t h1 h2 => b t (by omega) h2⟩
theorem vs_hit {p i : Nat} (hp : p < o) (hv : V p) (h : vs_N V o p i) : i = p := by
  rcases h with ⟨a, b, c, d⟩ | ⟨a, b⟩
  · rcases Nat.lt_or_ge p i with w | w
    · exact absurd hv (d p (Nat.le_refl _) w)
    · omega
  · exact absurd hv (b p (Nat.le_refl _) hp)
theorem vs_end {p i : Nat} (hp : o ≤ p) (h : vs_N V o p i) : i = o := by
  rcases h with ⟨a, b, c, d⟩ | ⟨a, b⟩
  · omega
  · exact a
theorem vs_Rle : ∀ m p i, vs_R V o m p i → i ≤ o
  | 0, p, i, h => vs_le h
  | m + 1, p, i, h => by obtain ⟨j, h1, h2⟩ := h; exact vs_Rle m _ i h2
theorem vs_Rend : ∀ m p i, o ≤ p → vs_R V o m p i → i = o
  | 0, p, i, hp, h => vs_end hp h
  | m + 1, p, i, hp, h => by
    obtain ⟨j, h1, h2⟩ := h
    have := vs_end hp h1
    exact vs_Rend m _ i (by omega) h2
theorem vs_Rskip {p i : Nat} (hv : ¬ V p) : ∀ m, vs_R V o m p i → vs_R V o m (p + 1) i
  | 0, h => vs_skip hv h
  | m + 1, h => by obtain ⟨j, h1, h2⟩ := h; exact ⟨j, vs_skip hv h1, h2⟩
theorem vs_Rapp {i i' : Nat} (h' : vs_N V o (i + 1) i') : ∀ m p, vs_R V o m p i → vs_R V o (m + 1) p i'
  | 0, p, h => ⟨i, h, h'⟩
  | m + 1, p, h => by
    obtain ⟨j, h1, h2⟩ := h
    exact ⟨j, h1, vs_Rapp h' m (j + 1) h2⟩
theorem vs_Rbig : ∀ m p i, vs_R V o m p i → i < o → p + m ≤ i
  | 0, p, i, h, hi => by
    rcases h with ⟨a, _⟩ | ⟨a, _⟩ <;> omega
  | m + 1, p, i, h, hi => by
    obtain ⟨j, h1, h2⟩ := h
    have := vs_Rbig m (j + 1) i h2 hi
    rcases h1 with ⟨a, _⟩ | ⟨a, _⟩
    · omega
    · have := vs_Rend m (j + 1) i (by omega) h2
      omega
end
section
variable {n nv na np c : Nat} {sl bo pt iS fc rS cT aC tk : Int32} {od jo loB hiB ki fa fb bf ch bs ps pb pp wS wT sB tL ip me eS oC oL oV dC dT dK co cP cR sE eV : Nat → Int32}
theorem xw_nv3 (hn : n ≤ 8) {r o ob : Nat} (hr : r < 2) (ho : o ≤ 16) (hob : ob < n) (eo : oC r = nI o) (hl : ∀ i, i < o → ∃ l, l < n ∧ oL (r * 16 + i) = nI l) {i : Nat} {post : Int32 → Prop} (hp : post (nI i)) :
    ∀ f p m, o - p ≤ f → f < m → p ≤ 17 → vs_N (vs_V od oL r ob) o p i → wX_nextVisible_3 post (nI r) (nI ob) (nI n) (nI nv) (nI na) (nI np) (nI (nv + na)) (nI (nv + na + 3 * np)) sl bo (nI c) pt iS fc rS cT aC tk od jo loB hiB ki fa fb bf ch bs ps pb pp wS wT sB tL ip me eS oC oL oV dC dT dK co cP cR sE eV m (nI p) := by
  have iv : vp_in (nI r) 2 := vp_in_nI hr (by decide)
  have er : (nI r).toNatClampNeg = r := nI_clamp (by omega)
  intro f
  induction f with
  | zero =>
    intro p m hf hm hp17 hN
    obtain ⟨m, rfl⟩ : ∃ e, m = e + 1 := ⟨m - 1, by omega⟩
    have := vs_end (by omega) hN
    refine And.intro iv ?_
    rw [er, eo]
    refine br_t (nI_le (by omega) (by omega)) (And.intro iv ?_)
    rw [← this]; exact hp
  | succ f ih =>
    intro p m hf hm hp17 hN
    obtain ⟨m, rfl⟩ : ∃ e, m = e + 1 := ⟨m - 1, by omega⟩
    refine And.intro iv ?_
    rw [er, eo]
    by_cases hpo : o ≤ p
    · have := vs_end hpo hN
      refine br_t (nI_le hpo (by omega)) (And.intro iv ?_)
      rw [← this]; exact hp
    refine br_f (nI_ge (by omega) (by omega)) ?_
    obtain ⟨l, hl1, hl2⟩ := hl p (by omega)
    have ek : kn oL (r * 16 + p) = l := by unfold kn; rw [hl2, nI_clamp (by omega)]
    rw [show (16 : Int32) = nI 16 from rfl, pk_mul, nI_add, nI_clamp (n := r * 16 + p) (by omega), hl2, bz_i8, nI_clamp (n := l * 8 + ob) (by omega)]
    refine And.intro (vp_in_nI (by omega) (by decide)) (And.intro (vp_in_nI (by omega) (by decide)) ?_)
    refine br_c (fun w => nm_r (nI_1 p) (ih (p + 1) m (by omega) (by omega) (by omega) (vs_skip (fun z => z (by rw [ek]; exact w)) hN))) (fun w => ?_)
    have := vs_hit (by omega) (show vs_V od oL r ob p from by unfold vs_V; rw [ek]; exact w) hN
    rw [← this]; exact hp
theorem xw_nv (hn : n ≤ 8) {r o ob : Nat} (hr : r < 2) (ho : o ≤ 16) (hob : ob < n) (eo : oC r = nI o) (hl : ∀ i, i < o → ∃ l, l < n ∧ oL (r * 16 + i) = nI l) {i p : Nat} {post : Int32 → Prop} (hp : post (nI i)) (hp17 : p ≤ 17) (hN : vs_N (vs_V od oL r ob) o p i) {x y : Int32} (hx : x = nI p) (hy : y = nI r) : wpX_nextVisible post (nI n, nI nv, nI na, nI np, nI (nv + na), nI (nv + na + 3 * np), sl, bo, nI c, pt, iS, fc, rS, cT, aC, tk, od, jo, loB, hiB, ki, fa, fb, bf, ch, bs, ps, pb, pp, wS, wT, sB, tL, ip, me, eS, oC, oL, oV, dC, dT, dK, co, cP, cR, sE, eV) y x (nI ob) := by
  subst hx hy
  exact ⟨18, xw_nv3 hn hr ho hob eo hl hp (o - p) p 18 (Nat.le_refl _) (by omega) hp17 hN⟩
end
section
variable {n nv na np c : Nat} {sl iS rS yC yF bo yD yA yT : Int32} {od yB yL yE ki fa fb yV eS oC dC yK cP cR oL oV dT dK : Nat → Int32}
theorem yw_vi6 (hn : n ≤ 8) {r o ob k : Nat} (hr : r < 2) (ho : o ≤ 16) (hob : ob < n) (hk : k ≤ 16) (eo : oC r = nI o) (hl : ∀ i, i < o → ∃ l, l < n ∧ oL (r * 16 + i) = nI l) {i : Nat} {post : Int32 → Prop} (h1 : i < o → post (nI (r * 16 + i))) (h0 : i = o → post (-1)) :
    ∀ f a p m, o - p ≤ f → f < m → p ≤ 17 → a ≤ k → vs_R (vs_V od oL r ob) o (k - a) p i → wY_visible_6 post (nI r) (nI k) (nI ob) (nI n) (nI nv) (nI na) (nI np) (nI (nv + na)) (nI (nv + na + 3 * np)) sl iS rS yC yF bo (nI c) yD yA yT od yB yL yE ki fa fb yV eS oC dC yK cP cR oL oV dT dK m (nI a) (nI p) := by
  have iv : vp_in (nI r) 2 := vp_in_nI hr (by decide)
  have er : (nI r).toNatClampNeg = r := nI_clamp (by omega)
  intro f
  induction f with
  | zero =>
    intro a p m hf hm hp17 ha hR
    obtain ⟨m, rfl⟩ : ∃ e, m = e + 1 := ⟨m - 1, by omega⟩
    refine And.intro iv ?_
    rw [er, eo]
    exact br_t (nI_le (by omega) (by omega)) (h0 (vs_Rend _ _ _ (by omega) hR))
  | succ f ih =>
    intro a p m hf hm hp17 ha hR
    obtain ⟨m, rfl⟩ : ∃ e, m = e + 1 := ⟨m - 1, by omega⟩
    refine And.intro iv ?_
    rw [er, eo]
    by_cases hpo : o ≤ p
    · exact br_t (nI_le hpo (by omega)) (h0 (vs_Rend _ _ _ hpo hR))
    refine br_f (nI_ge (by omega) (by omega)) ?_
    obtain ⟨l, hl1, hl2⟩ := hl p (by omega)
    have ek : kn oL (r * 16 + p) = l := by unfold kn; rw [hl2, nI_clamp (by omega)]
    rw [show (16 : Int32) = nI 16 from rfl, pk_mul, nI_add, nI_clamp (n := r * 16 + p) (by omega), hl2, bz_i8, nI_clamp (n := l * 8 + ob) (by omega)]
    refine And.intro (vp_in_nI (by omega) (by decide)) (And.intro (vp_in_nI (by omega) (by decide)) ?_)
    refine br_c (fun w => nm_r (nI_1 p) (ih a (p + 1) m (by omega) (by omega) (by omega) ha (vs_Rskip (fun z => z (by rw [ek]; exact w)) _ hR))) (fun w => ?_)
    have hV : vs_V od oL r ob p := by unfold vs_V; rw [ek]; exact w
    refine pk_eq a k (fun e => ?_) (fun e => ?_) rfl rfl (by omega) (by omega)
    · subst e
      rw [Nat.sub_self] at hR
      have := vs_hit (by omega) hV hR
      subst this
      exact h1 (by omega)
    · rw [show k - a = (k - (a + 1)) + 1 by omega] at hR
      obtain ⟨j, j1, j2⟩ := hR
      have := vs_hit (by omega) hV j1
      subst this
      exact nm_r (nI_1 a) (nm_r (nI_1 j) (ih (a + 1) (j + 1) m (by omega) (by omega) (by omega) (by omega) j2))
theorem yw_vi (hn : n ≤ 8) {r o ob k : Nat} (hr : r < 2) (ho : o ≤ 16) (hob : ob < n) (hk : k ≤ 16) (eo : oC r = nI o) (hl : ∀ i, i < o → ∃ l, l < n ∧ oL (r * 16 + i) = nI l) {i : Nat} {post : Int32 → Prop} (h1 : i < o → post (nI (r * 16 + i))) (h0 : i = o → post (-1)) (hR : vs_R (vs_V od oL r ob) o k 0 i) {y : Int32} (hy : y = nI r) : wpY_visible post (nI n, nI nv, nI na, nI np, nI (nv + na), nI (nv + na + 3 * np), sl, iS, rS, yC, yF, bo, nI c, yD, yA, yT, od, yB, yL, yE, ki, fa, fb, yV, eS, oC, dC, yK, cP, cR, oL, oV, dT, dK) y (nI k) (nI ob) := by
  subst hy
  exact ⟨18, yw_vi6 hn hr ho hob hk eo hl h1 h0 17 0 0 18 (by omega) (by omega) (by omega) (by omega) hR⟩
end
section
variable {n nv na np c : Nat} {sl bo pt iS fc rS cT aC tk : Int32} {od jo loB hiB ki fa fb bf ch bs ps pb pp wS wT sB tL ip me eS oC oL oV dC dT dK co cP cR sE eV : Nat → Int32} {yC yF yD yA yT : Int32} {yB yL yE yV yK : Nat → Int32}
theorem vl_x70 (x y : Int32) {post : Int32 → Prop} (h : x = y → post 0) (h' : ¬ x = y → post 1) : wX_logsDiffer_70 post x y (nI n) (nI nv) (nI na) (nI np) (nI (nv + na)) (nI (nv + na + 3 * np)) sl bo (nI c) pt iS fc rS cT aC tk od jo loB hiB ki fa fb bf ch bs ps pb pp wS wT sB tL ip me eS oC oL oV dC dT dK co cP cR sE eV := br_c h h'
theorem vl_over (hn : n ≤ 8) {o0 o1 ob : Nat} (ho0 : o0 ≤ 16) (ho1 : o1 ≤ 16) (hob : ob < n) (e0 : oC 0 = nI o0) (e1 : oC 1 = nI o1) (hl0 : ∀ i, i < o0 → ∃ l, l < n ∧ oL (0 * 16 + i) = nI l) (hl1 : ∀ i, i < o1 → ∃ l, l < n ∧ oL (1 * 16 + i) = nI l) {post : Int32 → Prop} (hp : post (-2)) :
    ∀ f k m, k + f = 16 → f < m → vs_R (vs_V od oL 0 ob) o0 k 0 o0 → vs_R (vs_V od oL 1 ob) o1 k 0 o1 → wY_firstDifference_117 post 1 (nI ob) (nI n) (nI nv) (nI na) (nI np) (nI (nv + na)) (nI (nv + na + 3 * np)) sl iS rS yC yF bo (nI c) yD yA yT od yB yL yE ki fa fb yV eS oC dC yK cP cR oL oV dT dK m (nI k) := by
  intro f
  induction f with
  | zero =>
    intro k m hf hm h0 h1
    obtain ⟨m, rfl⟩ : ∃ e, m = e + 1 := ⟨m - 1, by omega⟩
    have e : k = 16 := by omega
    subst e
    exact br_t (by decide) hp
  | succ f ih =>
    intro k m hf hm h0 h1
    obtain ⟨m, rfl⟩ : ∃ e, m = e + 1 := ⟨m - 1, by omega⟩
    refine br_f (nI_ge (b := 16) (by omega) (by decide)) (br_t rfl ?_)
    refine yw_vi hn (by decide) ho0 hob (by omega) e0 hl0 (fun w => by omega) (fun _ => ?_) h0 rfl
    refine yw_vi hn (by decide) ho1 hob (by omega) e1 hl1 (fun w => by omega) (fun _ => ?_) h1 rfl
    refine br_f (by decide) (br_f (by decide) (br_t rfl (br_t (by decide) (nm_r (nI_1 k) ?_))))
    exact ih (k + 1) m (by omega) (by omega) (vs_Rapp (Or.inr ⟨rfl, fun t h1 h2 => by omega⟩) _ _ h0) (vs_Rapp (Or.inr ⟨rfl, fun t h1 h2 => by omega⟩) _ _ h1)
/-- the logs compared in lockstep -/
theorem vl_lock (hn : n ≤ 8) {o0 o1 ob : Nat} (ho0 : o0 ≤ 16) (ho1 : o1 ≤ 16) (hob : ob < n) (e0 : oC 0 = nI o0) (e1 : oC 1 = nI o1) (hl0 : ∀ i, i < o0 → ∃ l, l < n ∧ oL (0 * 16 + i) = nI l) (hl1 : ∀ i, i < o1 → ∃ l, l < n ∧ oL (1 * 16 + i) = nI l) :
    ∀ f k i j, k + f = 16 → vs_R (vs_V od oL 0 ob) o0 k 0 i → vs_R (vs_V od oL 1 ob) o1 k 0 j →
      ∃ r : Int32, (r = 0 ∨ r = 1) ∧ (∀ (post : Int32 → Prop) m, f < m → post r → wX_logsDiffer_19 post (nI ob) (nI n) (nI nv) (nI na) (nI np) (nI (nv + na)) (nI (nv + na + 3 * np)) sl bo (nI c) pt iS fc rS cT aC tk od jo loB hiB ki fa fb bf ch bs ps pb pp wS wT sB tL ip me eS oC oL oV dC dT dK co cP cR sE eV m (nI i) (nI j) (nI k)) ∧
        (∀ (post : Int32 → Prop) m, f < m → (r = 0 → post (-2)) → (r = 1 → post (nI (nv + na))) → wY_firstDifference_117 post 1 (nI ob) (nI n) (nI nv) (nI na) (nI np) (nI (nv + na)) (nI (nv + na + 3 * np)) sl iS rS yC yF bo (nI c) yD yA yT od yB yL yE ki fa fb yV eS oC dC yK cP cR oL oV dT dK m (nI k)) := by
  intro f
  induction f with
  | zero =>
    intro k i j hf h0 h1
    have e : k = 16 := by omega
    subst e
    have i0 := vs_Rle _ _ _ h0
    have j0 := vs_Rle _ _ _ h1
    have i1 : i = o0 := by
      rcases Nat.lt_or_ge i o0 with w | w
      · have := vs_Rbig _ _ _ h0 w; omega
      · omega
    have j1 : j = o1 := by
      rcases Nat.lt_or_ge j o1 with w | w
      · have := vs_Rbig _ _ _ h1 w; omega
      · omega
    subst i1; subst j1
    refine ⟨0, Or.inl rfl, fun post m hm hp => ?_, fun post m hm hp _ => ?_⟩
    · obtain ⟨m, rfl⟩ : ∃ e, m = e + 1 := ⟨m - 1, by omega⟩
      refine br_f (by decide) (br_f (by rw [e0]; exact nI_nlt (Nat.le_refl _) (by omega)) (br_f (by rw [e1]; exact nI_nlt (Nat.le_refl _) (by omega)) ?_))
      exact br_f (by decide) (br_t rfl hp)
    · obtain ⟨m, rfl⟩ : ∃ e, m = e + 1 := ⟨m - 1, by omega⟩
      exact br_t (by decide) (hp rfl)
  | succ f ih =>
    intro k i j hf h0 h1
    have i0 := vs_Rle _ _ _ h0
    have j0 := vs_Rle _ _ _ h1
    have hk16 : ¬ (16 : Int32) < nI k := nI_nlt (a := 16) (b := k) (by omega) (by decide)
    have hk16' : ¬ (16 : Int32) ≤ nI k := nI_ge (b := 16) (by omega) (by decide)
    by_cases wi : i < o0
    · have zi : nI i < oC 0 := by rw [e0]; exact nI_lt wi (by omega)
      by_cases wj : j < o1
      · have zj : nI j < oC 1 := by rw [e1]; exact nI_lt wj (by omega)
        have ii : vp_in (nI i) 32 := vp_in_nI (by omega) (by decide)
        have e16 : (16 : Int32) + nI j = nI (1 * 16 + j) := by rw [show (16 : Int32) = nI 16 from rfl, nI_add]
        have ij : vp_in (nI (1 * 16 + j)) 32 := vp_in_nI (by omega) (by decide)
        have ei0 : nI (0 * 16 + i) = nI i := congrArg nI (by omega)
        -- the reference's comparison
        have Y : ∀ (post : Int32 → Prop) m, wY_firstDifference_166 post (wY_firstDifference_117 post 1 (nI ob) (nI n) (nI nv) (nI na) (nI np) (nI (nv + na)) (nI (nv + na + 3 * np)) sl iS rS yC yF bo (nI c) yD yA yT od yB yL yE ki fa fb yV eS oC dC yK cP cR oL oV dT dK m) 1 (nI ob) (nI k) (nI i) (nI (1 * 16 + j)) 0 0 (nI n) (nI nv) (nI na) (nI np) (nI (nv + na)) (nI (nv + na + 3 * np)) sl iS rS yC yF bo (nI c) yD yA yT od yB yL yE ki fa fb yV eS oC dC yK cP cR oL oV dT dK → wY_firstDifference_117 post 1 (nI ob) (nI n) (nI nv) (nI na) (nI np) (nI (nv + na)) (nI (nv + na + 3 * np)) sl iS rS yC yF bo (nI c) yD yA yT od yB yL yE ki fa fb yV eS oC dC yK cP cR oL oV dT dK (m + 1) (nI k) := by
          intro post m h
          refine br_f hk16' (br_t rfl ?_)
          refine yw_vi hn (by decide) ho0 hob (by omega) e0 hl0 (fun _ => ?_) (fun w => by omega) h0 rfl
          refine yw_vi hn (by decide) ho1 hob (by omega) e1 hl1 (fun _ => ?_) (fun w => by omega) h1 rfl
          rw [ei0]
          exact br_t (nI_pos' (by omega)) (br_t (nI_pos' (by omega)) h)
        by_cases wl : oL (nI i).toNatClampNeg = oL (nI (1 * 16 + j)).toNatClampNeg
        · by_cases wv : oV (nI i).toNatClampNeg = oV (nI (1 * 16 + j)).toNatClampNeg
          · obtain ⟨i', hi'⟩ := vs_ex (V := vs_V od oL 0 ob) (o := o0) (o0 - (i + 1)) (i + 1) (Nat.le_refl _)
            obtain ⟨j', hj'⟩ := vs_ex (V := vs_V od oL 1 ob) (o := o1) (o1 - (j + 1)) (j + 1) (Nat.le_refl _)
            obtain ⟨r, hr, hX, hY⟩ := ih (k + 1) i' j' (by omega) (vs_Rapp hi' _ _ h0) (vs_Rapp hj' _ _ h1)
            refine ⟨r, hr, fun post m hm hp => ?_, fun post m hm hp hp' => ?_⟩
            · obtain ⟨m, rfl⟩ : ∃ e, m = e + 1 := ⟨m - 1, by omega⟩
              refine br_f hk16 (br_t zi (br_t zj ?_))
              refine br_t rfl (br_t rfl ?_)
              rw [e16]
              refine And.intro ii (And.intro ij (br_t wl (And.intro ii (And.intro ij (br_t wv ?_)))))
              refine xw_nv hn (by decide) ho0 hob e0 hl0 ?_ (by omega) hi' (nI_1 i) rfl
              refine xw_nv hn (by decide) ho1 hob e1 hl1 ?_ (by omega) hj' (nI_1 j) rfl
              exact nm_r (nI_1 k) (hX post m (by omega) hp)
            · obtain ⟨m, rfl⟩ : ∃ e, m = e + 1 := ⟨m - 1, by omega⟩
              refine Y post m (br_t rfl (br_f (nI_pos (by omega)) (br_f (nI_pos (by omega)) ?_)))
              exact And.intro ii (And.intro ij (br_t wl (And.intro ii (And.intro ij (br_t wv (nm_r (nI_1 k) (hY post m (by omega) hp hp')))))))
          · refine ⟨1, Or.inr rfl, fun post m hm hp => ?_, fun post m hm hp hp' => ?_⟩
            · obtain ⟨m, rfl⟩ : ∃ e, m = e + 1 := ⟨m - 1, by omega⟩
              refine br_f hk16 (br_t zi (br_t zj ?_))
              refine br_t rfl (br_t rfl ?_)
              rw [e16]
              exact And.intro ii (And.intro ij (br_t wl (And.intro ii (And.intro ij (br_f wv hp)))))
            · obtain ⟨m, rfl⟩ : ∃ e, m = e + 1 := ⟨m - 1, by omega⟩
              refine Y post m (br_t rfl (br_f (nI_pos (by omega)) (br_f (nI_pos (by omega)) ?_)))
              exact And.intro ii (And.intro ij (br_t wl (And.intro ii (And.intro ij (br_f wv (hp' rfl))))))
        · refine ⟨1, Or.inr rfl, fun post m hm hp => ?_, fun post m hm hp hp' => ?_⟩
          · obtain ⟨m, rfl⟩ : ∃ e, m = e + 1 := ⟨m - 1, by omega⟩
            refine br_f hk16 (br_t zi (br_t zj ?_))
            refine br_t rfl (br_t rfl ?_)
            rw [e16]
            exact And.intro ii (And.intro ij (br_f wl hp))
          · obtain ⟨m, rfl⟩ : ∃ e, m = e + 1 := ⟨m - 1, by omega⟩
            refine Y post m (br_t rfl (br_f (nI_pos (by omega)) (br_f (nI_pos (by omega)) ?_)))
            exact And.intro ii (And.intro ij (br_f wl (hp' rfl)))
      · have zj : ¬ nI j < oC 1 := by rw [e1]; exact nI_nlt (by omega) (by omega)
        refine ⟨1, Or.inr rfl, fun post m hm hp => ?_, fun post m hm hp hp' => ?_⟩
        · obtain ⟨m, rfl⟩ : ∃ e, m = e + 1 := ⟨m - 1, by omega⟩
          refine br_f hk16 (br_t zi (br_f zj ?_))
          exact br_t rfl (br_f (by decide) (br_f (by decide) hp))
        · obtain ⟨m, rfl⟩ : ∃ e, m = e + 1 := ⟨m - 1, by omega⟩
          refine br_f hk16' (br_t rfl ?_)
          refine yw_vi hn (by decide) ho0 hob (by omega) e0 hl0 (fun _ => ?_) (fun w => by omega) h0 rfl
          refine yw_vi hn (by decide) ho1 hob (by omega) e1 hl1 (fun w => by omega) (fun _ => ?_) h1 rfl
          exact br_t (nI_pos' (by omega)) (br_f (by decide) (br_f (by decide) (hp' rfl)))
    · have zi : ¬ nI i < oC 0 := by rw [e0]; exact nI_nlt (by omega) (by omega)
      have ei : i = o0 := by omega
      subst ei
      by_cases wj : j < o1
      · have zj : nI j < oC 1 := by rw [e1]; exact nI_lt wj (by omega)
        refine ⟨1, Or.inr rfl, fun post m hm hp => ?_, fun post m hm hp hp' => ?_⟩
        · obtain ⟨m, rfl⟩ : ∃ e, m = e + 1 := ⟨m - 1, by omega⟩
          refine br_f hk16 (br_f zi (br_t zj ?_))
          exact br_f (by decide) (br_f (by decide) hp)
        · obtain ⟨m, rfl⟩ : ∃ e, m = e + 1 := ⟨m - 1, by omega⟩
          refine br_f hk16' (br_t rfl ?_)
          refine yw_vi hn (by decide) ho0 hob (by omega) e0 hl0 (fun w => by omega) (fun _ => ?_) h0 rfl
          refine yw_vi hn (by decide) ho1 hob (by omega) e1 hl1 (fun _ => ?_) (fun w => by omega) h1 rfl
          exact br_f (by decide) (br_t (nI_pos' (by omega)) (br_f (by decide) (hp' rfl)))
      · have zj : ¬ nI j < oC 1 := by rw [e1]; exact nI_nlt (by omega) (by omega)
        have ej : j = o1 := by omega
        subst ej
        refine ⟨0, Or.inl rfl, fun post m hm hp => ?_, fun post m hm hp hp' => ?_⟩
        · obtain ⟨m, rfl⟩ : ∃ e, m = e + 1 := ⟨m - 1, by omega⟩
          refine br_f hk16 (br_f zi (br_f zj ?_))
          exact br_f (by decide) (br_t rfl hp)
        · exact vl_over hn ho0 ho1 hob e0 e1 hl0 hl1 (hp rfl) (f + 1) k m hf hm h0 h1
end
def sd_A (w : Nat) (ip me : Nat → Int32) : Nat → Int32 := if w = 0 then ip else me
def sd_d (nv w : Nat) (ip me : Nat → Int32) (s : Nat) : Prop := ∃ q, q < 4 ∧ (s < nv → q = 0) ∧ ¬ sd_A w ip me (s * 4 + q) = sd_A w ip me (48 + (s * 4 + q))
section
variable {n nv na np c : Nat} {sl bo pt iS fc rS cT aC tk : Int32} {od jo loB hiB ki fa fb bf ch bs ps pb pp wS wT sB tL ip me eS oC oL oV dC dT dK co cP cR sE eV : Nat → Int32}
theorem xw_sd17 (hnv : nv ≤ 8) (hna : na ≤ 4) {w s cs : Nat} (hw : w < 2) (hs : s < nv + na) (hcs : (s < nv → cs = 1) ∧ (¬ s < nv → cs = 4)) {post : Int32 → Prop} (h1 : sd_d nv w ip me s → post 1) (h0 : ¬ sd_d nv w ip me s → post 0) :
    ∀ f i m, i + f = cs → f < m → (∀ q, q < i → sd_A w ip me (s * 4 + q) = sd_A w ip me (48 + (s * 4 + q))) → wX_slotDiffers_17 post (nI w) (nI s) (nI cs) (nI n) (nI nv) (nI na) (nI np) (nI (nv + na)) (nI (nv + na + 3 * np)) sl bo (nI c) pt iS fc rS cT aC tk od jo loB hiB ki fa fb bf ch bs ps pb pp wS wT sB tL ip me eS oC oL oV dC dT dK co cP cR sE eV m (nI i) := by
  have hc4 : cs ≤ 4 := by
    by_cases z : s < nv
    · have := hcs.1 z; omega
    · have := hcs.2 z; omega
  intro f
  induction f with
  | zero =>
    intro i m hf hm hI
    obtain ⟨m, rfl⟩ : ∃ e, m = e + 1 := ⟨m - 1, by omega⟩
    refine br_t (nI_le (by omega) (by omega)) (h0 ?_)
    rintro ⟨q, q1, q2, q3⟩
    refine q3 (hI q ?_)
    by_cases z : s < nv
    · have := hcs.1 z; have := q2 z; omega
    · have := hcs.2 z; omega
  | succ f ih =>
    intro i m hf hm hI
    obtain ⟨m, rfl⟩ : ∃ e, m = e + 1 := ⟨m - 1, by omega⟩
    have hsi : s < nv → i = 0 := fun z => by have := hcs.1 z; omega
    have e1 : nI s * 4 + nI i = nI (s * 4 + i) := by rw [show (4 : Int32) = nI 4 from rfl, pk_mul, nI_add]
    have e2 : (48 : Int32) + nI (s * 4 + i) = nI (48 + (s * 4 + i)) := by rw [show (48 : Int32) = nI 48 from rfl, nI_add]
    refine br_f (nI_ge (by omega) (by omega)) (nm_r e1 ?_)
    rw [e2, nI_clamp (n := s * 4 + i) (by omega), nI_clamp (n := 48 + (s * 4 + i)) (by omega)]
    have i1 : vp_in (nI (s * 4 + i)) 96 := vp_in_nI (by omega) (by decide)
    have i2 : vp_in (nI (48 + (s * 4 + i))) 96 := vp_in_nI (by omega) (by decide)
    have hw' : w = 0 ∨ w = 1 := by omega
    rcases hw' with z | z
    · subst z
      refine br_t rfl (And.intro i1 (And.intro i2 (br_c (fun e => nm_r (nI_1 i) (ih (i + 1) m (by omega) (by omega) (lt_s hI e))) (fun e => h1 ⟨i, by omega, hsi, e⟩))))
    · subst z
      refine br_f (by decide) (And.intro i1 (And.intro i2 (br_c (fun e => nm_r (nI_1 i) (ih (i + 1) m (by omega) (by omega) (lt_s hI e))) (fun e => h1 ⟨i, by omega, hsi, e⟩))))
theorem xw_sd (hnv : nv ≤ 8) (hna : na ≤ 4) {w s : Nat} (hw : w < 2) (hs : s < nv + na) {post : Int32 → Prop} (h1 : sd_d nv w ip me s → post 1) (h0 : ¬ sd_d nv w ip me s → post 0) : wpX_slotDiffers post (nI n, nI nv, nI na, nI np, nI (nv + na), nI (nv + na + 3 * np), sl, bo, nI c, pt, iS, fc, rS, cT, aC, tk, od, jo, loB, hiB, ki, fa, fb, bf, ch, bs, ps, pb, pp, wS, wT, sB, tL, ip, me, eS, oC, oL, oV, dC, dT, dK, co, cP, cR, sE, eV) (nI w) (nI s) := by
  refine pk_le nv s (fun z => ⟨5, ?_⟩) (fun z => ⟨5, ?_⟩) rfl rfl (by omega) (by omega)
  · exact xw_sd17 (cs := 4) hnv hna hw hs ⟨fun z => by omega, fun _ => rfl⟩ h1 h0 4 0 5 (by omega) (by omega) lt_0
  · exact xw_sd17 (cs := 1) hnv hna hw hs ⟨fun _ => rfl, fun z => by omega⟩ h1 h0 1 0 5 (by omega) (by omega) lt_0
end
section
variable {n nv na np c : Nat} {sl bo pt iS fc rS cT aC tk : Int32} {od jo loB hiB ki fa fb bf ch bs ps pb pp wS wT sB tL ip me eS oC oL oV dC dT dK co cP cR sE eV : Nat → Int32} {yC yF yD yA yT : Int32} {yB yL yE yV yK : Nat → Int32}
theorem yw_fd55 (hn : n ≤ 8) (hnv : nv ≤ 8) (hna : na ≤ 4) {w s ob l : Nat} (hw : w < 2) (hr : w = 1 → ¬ rS = 0) (hs : s < nv + na) (hob : ob < n) (hE : yE = gl 96 ip me) (hl : l < n) (el : yL s = nI l) {post J44 : Int32 → Prop} (h1 : od_le od l ob → sd_d nv w ip me s → post (nI s)) (h0 : ¬ (od_le od l ob ∧ sd_d nv w ip me s) → J44 (nI (s + 1))) :
    ∀ f i m, i + f = 4 → f < m → (od_le od l ob → ∀ q, q < i → (s < nv → q = 0) → sd_A w ip me (s * 4 + q) = sd_A w ip me (48 + (s * 4 + q))) → wY_firstDifference_55 post J44 (nI w) (nI ob) (nI s) (nI n) (nI nv) (nI na) (nI np) (nI (nv + na)) (nI (nv + na + 3 * np)) sl iS rS yC yF bo (nI c) yD yA yT od yB yL yE ki fa fb yV eS oC dC yK cP cR oL oV dT dK m (nI i) := by
  intro f
  induction f with
  | zero =>
    intro i m hf hm hI
    obtain ⟨m, rfl⟩ : ∃ e, m = e + 1 := ⟨m - 1, by omega⟩
    refine br_t (nI_le (a := 4) (by omega) (by omega)) (nm_r (nI_1 s) (h0 ?_))
    rintro ⟨z, q, q1, q2, q3⟩
    exact q3 (hI z q (by omega) q2)
  | succ f ih =>
    intro i m hf hm hI
    obtain ⟨m, rfl⟩ : ∃ e, m = e + 1 := ⟨m - 1, by omega⟩
    refine br_f (nI_ge (b := 4) (by omega) (by decide)) ?_
    rw [nI_clamp (n := s) (by omega), el, bz_i8, nI_clamp (n := l * 8 + ob) (by omega)]
    refine And.intro (vp_in_nI (by omega) (by decide)) (And.intro (vp_in_nI (by omega) (by decide)) ?_)
    refine br_c (fun z => nm_r (nI_1 i) (ih (i + 1) m (by omega) (by omega) (fun z' => absurd z z'))) (fun z => ?_)
    have vA : ∀ r q, r < 2 → q < 4 → yE (w * 96 + r * 48 + s * 4 + q) = sd_A w ip me (r * 48 + (s * 4 + q)) := by
      intro r q hr hq
      unfold sd_A
      have hw' : w = 0 ∨ w = 1 := by omega
      rcases hw' with y | y
      · subst y
        rw [if_pos rfl, hE, show 0 * 96 + r * 48 + s * 4 + q = r * 48 + (s * 4 + q) by omega, gl_lo (by omega)]
      · subst y
        rw [if_neg (by decide), hE, show 1 * 96 + r * 48 + s * 4 + q = 96 + (r * 48 + (s * 4 + q)) by omega, gl_hi]
    by_cases hic : s < nv → i = 0
    · have ic : ic_is nv na (nI s) (nI i) s i := ⟨rfl, rfl, hs, by omega, hic⟩
      refine yw_val (w := w) (r := 0) hnv hna hw (by decide) (fun s' q' ic' _ => ?_) (fun z => ?_) rfl rfl
      · obtain ⟨a, b⟩ := ic_u hnv hna ic ic'
        subst a; subst b
        refine yw_val (w := w) (r := 1) hnv hna hw (by decide) (fun s' q' ic' _ => ?_) (fun z => ?_) rfl rfl
        · obtain ⟨a, b⟩ := ic_u hnv hna ic ic'
          subst a; subst b
          rw [vA 0 i (by decide) (by omega), vA 1 i (by decide) (by omega), show 0 * 48 + (s * 4 + i) = s * 4 + i by omega, show 1 * 48 + (s * 4 + i) = 48 + (s * 4 + i) by omega]
          refine br_c (fun e => nm_r (nI_1 i) (ih (i + 1) m (by omega) (by omega) (fun zz q hq hq' => ?_))) (fun e => h1 z ⟨i, by omega, hic, e⟩)
          by_cases eq : q = i
          · subst eq; exact e
          · exact hI zz q (by omega) hq'
        · rcases z with z | z
          · exact absurd ic (z s i)
          · exact absurd z.2 (hr z.1)
      · rcases z with z | z
        · exact absurd ic (z s i)
        · exact absurd z.2 (hr z.1)
    · have nic : ∀ s' q', ¬ ic_is nv na (nI s) (nI i) s' q' := by
        intro s' q' hh
        have x1 := (nI_eq (by omega) (by have := hh.2.2.1; omega)).mp hh.1
        have x2 := (nI_eq (by omega) (by have := hh.2.2.2.1; omega)).mp hh.2.1
        subst x1; subst x2
        exact hic hh.2.2.2.2
      refine yw_val (w := w) (r := 0) hnv hna hw (by decide) (fun s' q' ic' _ => absurd ic' (nic s' q')) (fun _ => ?_) rfl rfl
      refine yw_val (w := w) (r := 1) hnv hna hw (by decide) (fun s' q' ic' _ => absurd ic' (nic s' q')) (fun _ => ?_) rfl rfl
      refine br_t rfl (nm_r (nI_1 i) (ih (i + 1) m (by omega) (by omega) (fun zz q hq hq' => ?_)))
      by_cases eq : q = i
      · subst eq; exact absurd hq' hic
      · exact hI zz q (by omega) hq'
/-- the slots in lockstep -/
theorem fd_lock (hn : n ≤ 8) (hnv : nv ≤ 8) (hna : na ≤ 4) {w ob : Nat} (hw : w < 2) (hr : w = 1 → ¬ rS = 0) (hob : ob < n) (hE : yE = gl 96 ip me) (hl : ∀ s, s < nv + na → ∃ l, l < n ∧ sB s = nI l ∧ yL s = nI l)
    (hlog : w = 1 → ∃ o0 o1, o0 ≤ 16 ∧ o1 ≤ 16 ∧ oC 0 = nI o0 ∧ oC 1 = nI o1 ∧ (∀ i, i < o0 → ∃ l, l < n ∧ oL (0 * 16 + i) = nI l) ∧ (∀ i, i < o1 → ∃ l, l < n ∧ oL (1 * 16 + i) = nI l)) :
    ∀ f s, s + f = nv + na → ∃ r : Int32, (∀ (post : Int32 → Prop) m, f < m → post r → wX_firstDifference_46 post (nI w) (nI ob) (nI n) (nI nv) (nI na) (nI np) (nI (nv + na)) (nI (nv + na + 3 * np)) sl bo (nI c) pt iS fc rS cT aC tk od jo loB hiB ki fa fb bf ch bs ps pb pp wS wT sB tL ip me eS oC oL oV dC dT dK co cP cR sE eV m (nI s)) ∧ (∀ (post : Int32 → Prop) m, f < m → post r → wY_firstDifference_44 post (nI w) (nI ob) (nI n) (nI nv) (nI na) (nI np) (nI (nv + na)) (nI (nv + na + 3 * np)) sl iS rS yC yF bo (nI c) yD yA yT od yB yL yE ki fa fb yV eS oC dC yK cP cR oL oV dT dK m (nI s)) := by
  intro f
  induction f with
  | zero =>
    intro s hf
    have e : s = nv + na := by omega
    rw [e]
    have le1 : nI (nv + na) ≤ nI (nv + na) := nI_le (Nat.le_refl _) (by omega)
    have hw' : w = 0 ∨ w = 1 := by omega
    rcases hw' with z | z
    · subst z
      refine ⟨-2, fun post m hm hp => ?_, fun post m hm hp => ?_⟩
      · obtain ⟨m, rfl⟩ : ∃ e, m = e + 1 := ⟨m - 1, by omega⟩
        exact br_t le1 (br_f (by decide) hp)
      · obtain ⟨m, rfl⟩ : ∃ e, m = e + 1 := ⟨m - 1, by omega⟩
        exact br_t le1 ⟨1, br_f (by decide) (br_f (by decide) hp)⟩
    · subst z
      obtain ⟨o0, o1, ho0, ho1, e0, e1, hl0, hl1⟩ := hlog rfl
      obtain ⟨i', hi'⟩ := vs_ex (V := vs_V od oL 0 ob) (o := o0) o0 0 (by omega)
      obtain ⟨j', hj'⟩ := vs_ex (V := vs_V od oL 1 ob) (o := o1) o1 0 (by omega)
      obtain ⟨r, hr01, hX, hY⟩ := vl_lock (n := n) (nv := nv) (na := na) (np := np) (c := c) (sl := sl) (bo := bo) (pt := pt) (iS := iS) (fc := fc) (rS := rS) (cT := cT) (aC := aC) (tk := tk) (yC := yC) (yF := yF) (yD := yD) (yA := yA) (yT := yT) (od := od) (jo := jo) (loB := loB) (hiB := hiB) (ki := ki) (fa := fa) (fb := fb) (bf := bf) (ch := ch) (bs := bs) (ps := ps) (pb := pb) (pp := pp) (wS := wS) (wT := wT) (sB := sB) (tL := tL) (ip := ip) (me := me) (eS := eS) (oC := oC) (oL := oL) (oV := oV) (dC := dC) (dT := dT) (dK := dK) (co := co) (cP := cP) (cR := cR) (sE := sE) (eV := eV) (yB := yB) (yL := yL) (yE := yE) (yV := yV) (yK := yK) hn ho0 ho1 hob e0 e1 hl0 hl1 16 0 i' j' (by decide) hi' hj'
      have X1 : ∀ (post : Int32 → Prop), post r → wpX_logsDiffer post (nI n, nI nv, nI na, nI np, nI (nv + na), nI (nv + na + 3 * np), sl, bo, nI c, pt, iS, fc, rS, cT, aC, tk, od, jo, loB, hiB, ki, fa, fb, bf, ch, bs, ps, pb, pp, wS, wT, sB, tL, ip, me, eS, oC, oL, oV, dC, dT, dK, co, cP, cR, sE, eV) (nI ob) := by
        intro post hp
        unfold wpX_logsDiffer
        dsimp only
        refine xw_nv hn (by decide) ho0 hob e0 hl0 ?_ (by decide) hi' rfl rfl
        refine xw_nv hn (by decide) ho1 hob e1 hl1 ?_ (by decide) hj' rfl rfl
        exact ⟨17, hX post 17 (by decide) hp⟩
      rcases hr01 with rz | rz
      · subst rz
        refine ⟨-2, fun post m hm hp => ?_, fun post m hm hp => ?_⟩
        · obtain ⟨m, rfl⟩ : ∃ e, m = e + 1 := ⟨m - 1, by omega⟩
          exact br_t le1 (br_t rfl (X1 _ (br_t rfl hp)))
        · obtain ⟨m, rfl⟩ : ∃ e, m = e + 1 := ⟨m - 1, by omega⟩
          exact br_t le1 ⟨17, hY post 17 (by decide) (fun _ => hp) (fun w => absurd w (by decide))⟩
      · subst rz
        refine ⟨nI (nv + na), fun post m hm hp => ?_, fun post m hm hp => ?_⟩
        · obtain ⟨m, rfl⟩ : ∃ e, m = e + 1 := ⟨m - 1, by omega⟩
          exact br_t le1 (br_t rfl (X1 _ (br_f (by decide) hp)))
        · obtain ⟨m, rfl⟩ : ∃ e, m = e + 1 := ⟨m - 1, by omega⟩
          exact br_t le1 ⟨17, hY post 17 (by decide) (fun w => absurd w (by decide)) (fun _ => hp)⟩
  | succ f ih =>
    intro s hf
    have ge1 : ¬ nI (nv + na) ≤ nI s := nI_ge (by omega) (by omega)
    obtain ⟨l, l1, l2, l3⟩ := hl s (by omega)
    have e1 : nI l * 8 + nI ob = nI (l * 8 + ob) := bz_i8 _ _
    have e2 : (nI (l * 8 + ob)).toNatClampNeg = l * 8 + ob := nI_clamp (by omega)
    have es : (nI s).toNatClampNeg = s := nI_clamp (by omega)
    by_cases hh : od_le od l ob ∧ sd_d nv w ip me s
    · refine ⟨nI s, fun post m hm hp => ?_, fun post m hm hp => ?_⟩
      · obtain ⟨m, rfl⟩ : ∃ e, m = e + 1 := ⟨m - 1, by omega⟩
        refine br_f ge1 ?_
        rw [es, l2, e1, e2]
        refine And.intro (vp_in_nI (by omega) (by decide)) (And.intro (vp_in_nI (by omega) (by decide)) (br_f hh.1 ?_))
        exact xw_sd hnv hna hw (by omega) (fun _ => br_f (by decide) hp) (fun z => absurd hh.2 z)
      · obtain ⟨m, rfl⟩ : ∃ e, m = e + 1 := ⟨m - 1, by omega⟩
        exact br_f ge1 ⟨5, yw_fd55 (ip := ip) (me := me) hn hnv hna hw hr (by omega) hob hE l1 l3 (fun _ _ => hp) (fun z => absurd hh z) 4 0 5 (by decide) (by decide) (fun _ q hq => absurd hq (Nat.not_lt_zero _))⟩
    · obtain ⟨r, hX, hY⟩ := ih (s + 1) (by omega)
      refine ⟨r, fun post m hm hp => ?_, fun post m hm hp => ?_⟩
      · obtain ⟨m, rfl⟩ : ∃ e, m = e + 1 := ⟨m - 1, by omega⟩
        refine br_f ge1 ?_
        rw [es, l2, e1, e2]
        refine And.intro (vp_in_nI (by omega) (by decide)) (And.intro (vp_in_nI (by omega) (by decide)) (br_c (fun z => nm_r (nI_1 s) (hX post m (by omega) hp)) (fun z => ?_)))
        exact xw_sd hnv hna hw (by omega) (fun z' => absurd ⟨z, z'⟩ hh) (fun z' => br_t rfl (nm_r (nI_1 s) (hX post m (by omega) hp)))
      · obtain ⟨m, rfl⟩ : ∃ e, m = e + 1 := ⟨m - 1, by omega⟩
        exact br_f ge1 ⟨5, yw_fd55 (ip := ip) (me := me) hn hnv hna hw hr (by omega) hob hE l1 l3 (fun z z' => absurd ⟨z, z'⟩ hh) (fun _ => hY post m (by omega) hp) 4 0 5 (by decide) (by decide) (fun _ q hq => absurd hq (Nat.not_lt_zero _))⟩
end
theorem i_vc_firstDifference {k : Nat} {u : SX} {v : SY} (I : i_Rel k u v) (hk : k + 5 ≤ 2564) (v1 : Int32) (v2 : Int32) : wpX_firstDifference (fun r => wpY_firstDifference (fun r' => r' = r ∧ i_Rel (k + 5) u v) v v1 v2) u v1 v2 := by
  refine rl_el (P := fun u v => wpX_firstDifference (fun r => wpY_firstDifference (fun r' => r' = r ∧ i_Rel (k + 5) u v) v v1 v2) u v1 v2) ?_ I
  intro n nv na np c sl bo pt iS fc rS cT aC tk yC yF yD yA yT od jo loB hiB ki fa fb bf ch bs ps pb pp wS wT sB tL ip me eS oC oL oV dC dT dK co cP cR sE eV yB yL yE yV yK R
  obtain ⟨hsz, hod, hsl, hlat, hpg, hgl, hinf, hrun⟩ := R
  have hsz' := hsz
  obtain ⟨hn1, hn, hnv1, hnv, hna, hnp, hc⟩ := hsz'
  have fin : i_Rel (k + 5) (nI n, nI nv, nI na, nI np, nI (nv + na), nI (nv + na + 3 * np), sl, bo, nI c, pt, iS, fc, rS, cT, aC, tk, od, jo, loB, hiB, ki, fa, fb, bf, ch, bs, ps, pb, pp, wS, wT, sB, tL, ip, me, eS, oC, oL, oV, dC, dT, dK, co, cP, cR, sE, eV) (nI n, nI nv, nI na, nI np, nI (nv + na), nI (nv + na + 3 * np), sl, iS, rS, yC, yF, bo, nI c, yD, yA, yT, od, yB, yL, yE, ki, fa, fb, yV, eS, oC, dC, yK, cP, cR, oL, oV, dT, dK) := rl_mk ⟨hsz, hod, hsl, hlat, hpg, hgl, hinf, hrun⟩
  -- the reference's questions for a first argument 0 or 1
  have YQ : ∀ (x : Int32) w, w < 2 → v1 = nI w → (∀ ob, ob < n → v2 = nI ob → ((iS = 0 → (-1 : Int32) = x ∧ i_Rel (k + 5) (nI n, nI nv, nI na, nI np, nI (nv + na), nI (nv + na + 3 * np), sl, bo, nI c, pt, iS, fc, rS, cT, aC, tk, od, jo, loB, hiB, ki, fa, fb, bf, ch, bs, ps, pb, pp, wS, wT, sB, tL, ip, me, eS, oC, oL, oV, dC, dT, dK, co, cP, cR, sE, eV) (nI n, nI nv, nI na, nI np, nI (nv + na), nI (nv + na + 3 * np), sl, iS, rS, yC, yF, bo, nI c, yD, yA, yT, od, yB, yL, yE, ki, fa, fb, yV, eS, oC, dC, yK, cP, cR, oL, oV, dT, dK)) ∧ (¬ iS = 0 → ((v1 = 1 → ((rS = 0 → (-1 : Int32) = x ∧ i_Rel (k + 5) (nI n, nI nv, nI na, nI np, nI (nv + na), nI (nv + na + 3 * np), sl, bo, nI c, pt, iS, fc, rS, cT, aC, tk, od, jo, loB, hiB, ki, fa, fb, bf, ch, bs, ps, pb, pp, wS, wT, sB, tL, ip, me, eS, oC, oL, oV, dC, dT, dK, co, cP, cR, sE, eV) (nI n, nI nv, nI na, nI np, nI (nv + na), nI (nv + na + 3 * np), sl, iS, rS, yC, yF, bo, nI c, yD, yA, yT, od, yB, yL, yE, ki, fa, fb, yV, eS, oC, dC, yK, cP, cR, oL, oV, dT, dK)) ∧ (¬ rS = 0 → ∃ n44 : Nat, wY_firstDifference_44 (fun r' => r' = x ∧ i_Rel (k + 5) (nI n, nI nv, nI na, nI np, nI (nv + na), nI (nv + na + 3 * np), sl, bo, nI c, pt, iS, fc, rS, cT, aC, tk, od, jo, loB, hiB, ki, fa, fb, bf, ch, bs, ps, pb, pp, wS, wT, sB, tL, ip, me, eS, oC, oL, oV, dC, dT, dK, co, cP, cR, sE, eV) (nI n, nI nv, nI na, nI np, nI (nv + na), nI (nv + na + 3 * np), sl, iS, rS, yC, yF, bo, nI c, yD, yA, yT, od, yB, yL, yE, ki, fa, fb, yV, eS, oC, dC, yK, cP, cR, oL, oV, dT, dK)) v1 v2 (nI n) (nI nv) (nI na) (nI np) (nI (nv + na)) (nI (nv + na + 3 * np)) sl iS rS yC yF bo (nI c) yD yA yT od yB yL yE ki fa fb yV eS oC dC yK cP cR oL oV dT dK n44 0))) ∧ (¬ v1 = 1 → ∃ n44 : Nat, wY_firstDifference_44 (fun r' => r' = x ∧ i_Rel (k + 5) (nI n, nI nv, nI na, nI np, nI (nv + na), nI (nv + na + 3 * np), sl, bo, nI c, pt, iS, fc, rS, cT, aC, tk, od, jo, loB, hiB, ki, fa, fb, bf, ch, bs, ps, pb, pp, wS, wT, sB, tL, ip, me, eS, oC, oL, oV, dC, dT, dK, co, cP, cR, sE, eV) (nI n, nI nv, nI na, nI np, nI (nv + na), nI (nv + na + 3 * np), sl, iS, rS, yC, yF, bo, nI c, yD, yA, yT, od, yB, yL, yE, ki, fa, fb, yV, eS, oC, dC, yK, cP, cR, oL, oV, dT, dK)) v1 v2 (nI n) (nI nv) (nI na) (nI np) (nI (nv + na)) (nI (nv + na + 3 * np)) sl iS rS yC yF bo (nI c) yD yA yT od yB yL yE ki fa fb yV eS oC dC yK cP cR oL oV dT dK n44 0))))) → ((v2 < 0 ∨ (¬ v2 < 0 ∧ nI n ≤ v2)) → (-1 : Int32) = x ∧ i_Rel (k + 5) (nI n, nI nv, nI na, nI np, nI (nv + na), nI (nv + na + 3 * np), sl, bo, nI c, pt, iS, fc, rS, cT, aC, tk, od, jo, loB, hiB, ki, fa, fb, bf, ch, bs, ps, pb, pp, wS, wT, sB, tL, ip, me, eS, oC, oL, oV, dC, dT, dK, co, cP, cR, sE, eV) (nI n, nI nv, nI na, nI np, nI (nv + na), nI (nv + na + 3 * np), sl, iS, rS, yC, yF, bo, nI c, yD, yA, yT, od, yB, yL, yE, ki, fa, fb, yV, eS, oC, dC, yK, cP, cR, oL, oV, dT, dK)) → wpY_firstDifference (fun r' => r' = x ∧ i_Rel (k + 5) (nI n, nI nv, nI na, nI np, nI (nv + na), nI (nv + na + 3 * np), sl, bo, nI c, pt, iS, fc, rS, cT, aC, tk, od, jo, loB, hiB, ki, fa, fb, bf, ch, bs, ps, pb, pp, wS, wT, sB, tL, ip, me, eS, oC, oL, oV, dC, dT, dK, co, cP, cR, sE, eV) (nI n, nI nv, nI na, nI np, nI (nv + na), nI (nv + na + 3 * np), sl, iS, rS, yC, yF, bo, nI c, yD, yA, yT, od, yB, yL, yE, ki, fa, fb, yV, eS, oC, dC, yK, cP, cR, oL, oV, dT, dK)) (nI n, nI nv, nI na, nI np, nI (nv + na), nI (nv + na + 3 * np), sl, iS, rS, yC, yF, bo, nI c, yD, yA, yT, od, yB, yL, yE, ki, fa, fb, yV, eS, oC, dC, yK, cP, cR, oL, oV, dT, dK) v1 v2 := by
    intro x w hw ew h h'
    unfold wpY_firstDifference
    dsimp only
    refine yw_in v1 (k := 2) (by decide) (fun _ _ _ => br_f (by decide) ?_) (fun z => absurd ⟨w, hw, ew⟩ (bz_nr (by decide) z)) rfl
    exact yw_in v2 (k := n) (by omega) (fun ob hob eob => br_f (by decide) (h ob hob eob)) (fun z => br_t rfl (h' z)) rfl
  have P : ∀ w, w < 2 → v1 = nI w → wX_firstDifference_9 (fun r => wpY_firstDifference (fun r' => r' = r ∧ i_Rel (k + 5) (nI n, nI nv, nI na, nI np, nI (nv + na), nI (nv + na + 3 * np), sl, bo, nI c, pt, iS, fc, rS, cT, aC, tk, od, jo, loB, hiB, ki, fa, fb, bf, ch, bs, ps, pb, pp, wS, wT, sB, tL, ip, me, eS, oC, oL, oV, dC, dT, dK, co, cP, cR, sE, eV) (nI n, nI nv, nI na, nI np, nI (nv + na), nI (nv + na + 3 * np), sl, iS, rS, yC, yF, bo, nI c, yD, yA, yT, od, yB, yL, yE, ki, fa, fb, yV, eS, oC, dC, yK, cP, cR, oL, oV, dT, dK)) (nI n, nI nv, nI na, nI np, nI (nv + na), nI (nv + na + 3 * np), sl, iS, rS, yC, yF, bo, nI c, yD, yA, yT, od, yB, yL, yE, ki, fa, fb, yV, eS, oC, dC, yK, cP, cR, oL, oV, dT, dK) v1 v2) v1 v2 (nI n) (nI nv) (nI na) (nI np) (nI (nv + na)) (nI (nv + na + 3 * np)) sl bo (nI c) pt iS fc rS cT aC tk od jo loB hiB ki fa fb bf ch bs ps pb pp wS wT sB tL ip me eS oC oL oV dC dT dK co cP cR sE eV := by
    intro w hw ew
    unfold wX_firstDifference_9
    refine xw_in v2 (k := n) (by omega) (fun ob hob eob => br_f (by decide) ?_) (fun z => br_t rfl (YQ _ w hw ew (fun ob hob eob => absurd ⟨ob, hob, eob⟩ (bz_nr (by omega) z)) (fun _ => ⟨rfl, fin⟩))) rfl
    have no : ∀ x, (v2 < 0 ∨ (¬ v2 < 0 ∧ nI n ≤ v2)) → (-1 : Int32) = x ∧ i_Rel (k + 5) (nI n, nI nv, nI na, nI np, nI (nv + na), nI (nv + na + 3 * np), sl, bo, nI c, pt, iS, fc, rS, cT, aC, tk, od, jo, loB, hiB, ki, fa, fb, bf, ch, bs, ps, pb, pp, wS, wT, sB, tL, ip, me, eS, oC, oL, oV, dC, dT, dK, co, cP, cR, sE, eV) (nI n, nI nv, nI na, nI np, nI (nv + na), nI (nv + na + 3 * np), sl, iS, rS, yC, yF, bo, nI c, yD, yA, yT, od, yB, yL, yE, ki, fa, fb, yV, eS, oC, dC, yK, cP, cR, oL, oV, dT, dK) := fun x z => absurd ⟨ob, hob, eob⟩ (bz_nr (by omega) z)
    rcases hinf with i0 | ⟨i1, hs, hd, s, t, h1, h2, h3, h4⟩
    · exact br_t i0 (YQ _ w hw ew (fun _ _ _ => br_t i0 ⟨rfl, fin⟩) (no _))
    have iz : ¬ iS = 0 := by rw [i1]; decide
    refine br_f iz ?_
    have main : (w = 1 → ¬ rS = 0) → ∃ r : Int32, (∀ (post : Int32 → Prop), post r → ∃ n46 : Nat, wX_firstDifference_46 post v1 v2 (nI n) (nI nv) (nI na) (nI np) (nI (nv + na)) (nI (nv + na + 3 * np)) sl bo (nI c) pt iS fc rS cT aC tk od jo loB hiB ki fa fb bf ch bs ps pb pp wS wT sB tL ip me eS oC oL oV dC dT dK co cP cR sE eV n46 0) ∧ (∀ (post : Int32 → Prop), post r → ∃ n44 : Nat, wY_firstDifference_44 post v1 v2 (nI n) (nI nv) (nI na) (nI np) (nI (nv + na)) (nI (nv + na + 3 * np)) sl iS rS yC yF bo (nI c) yD yA yT od yB yL yE ki fa fb yV eS oC dC yK cP cR oL oV dT dK n44 0) := by
      intro hr
      obtain ⟨r, hX, hY⟩ := fd_lock (n := n) (nv := nv) (na := na) (np := np) (c := c) (sl := sl) (bo := bo) (pt := pt) (iS := iS) (fc := fc) (rS := rS) (cT := cT) (aC := aC) (tk := tk) (yC := yC) (yF := yF) (yD := yD) (yA := yA) (yT := yT) (od := od) (jo := jo) (loB := loB) (hiB := hiB) (ki := ki) (fa := fa) (fb := fb) (bf := bf) (ch := ch) (bs := bs) (ps := ps) (pb := pb) (pp := pp) (wS := wS) (wT := wT) (sB := sB) (tL := tL) (ip := ip) (me := me) (eS := eS) (oC := oC) (oL := oL) (oV := oV) (dC := dC) (dT := dT) (dK := dK) (co := co) (cP := cP) (cR := cR) (sE := sE) (eV := eV) (yB := yB) (yL := yL) (yE := yE) (yV := yV) (yK := yK) hn hnv hna hw hr hob hgl.2 (fun s' hs' => ⟨s s', (h1 s' (by omega)).1, (h1 s' (by omega)).2.1, (h1 s' (by omega)).2.2⟩) (fun w1 => by
        rcases hrun with r0 | ⟨_, _, _, hrr⟩
        · exact absurd r0 (hr w1)
        · obtain ⟨o0, _, a1, a2, _, _, a3⟩ := hrr 0 (by decide)
          obtain ⟨o1, _, b1, b2, _, _, b3⟩ := hrr 1 (by decide)
          exact ⟨o0, o1, a1, b1, a2, b2, a3, b3⟩) (nv + na) 0 (by omega)
      rw [ew, eob]
      exact ⟨r, fun post hp => ⟨nv + na + 1, hX post _ (by omega) hp⟩, fun post hp => ⟨nv + na + 1, hY post _ (by omega) hp⟩⟩
    by_cases w1 : v1 = 1
    · have ew1 : w = 1 := by
        rw [w1] at ew
        exact ((nI_eq (a := 1) (by decide) (by omega)).mp ew).symm
      refine br_t w1 ?_
      by_cases r0 : rS = 0
      · exact br_t r0 (YQ _ w hw ew (fun _ _ _ => br_f iz (br_t w1 (br_t r0 ⟨rfl, fin⟩))) (no _))
      · obtain ⟨r, hX, hY⟩ := main (fun _ => r0)
        exact br_f r0 (hX _ (YQ _ w hw ew (fun _ _ _ => br_f iz (br_t w1 (br_f r0 (hY _ ⟨rfl, fin⟩)))) (no _)))
    · have ew1 : w = 1 → ¬ rS = 0 := fun z => by
        rw [z] at ew
        exact absurd ew w1
      obtain ⟨r, hX, hY⟩ := main ew1
      exact br_f w1 (hX _ (YQ _ w hw ew (fun _ _ _ => br_f iz (br_f w1 (hY _ ⟨rfl, fin⟩))) (no _)))
  by_cases z0 : v1 = 0
  · exact br_t z0 (P 0 (by decide) z0)
  by_cases z1 : v1 = 1
  · exact br_f z0 (br_t z1 (P 1 (by decide) z1))
  refine br_f z0 (br_f z1 ?_)
  unfold wpY_firstDifference
  dsimp only
  refine yw_in v1 (k := 2) (by decide) (fun i hi ei => ?_) (fun _ => br_t rfl ⟨rfl, fin⟩) rfl
  have : i = 0 ∨ i = 1 := by omega
  rcases this with w | w <;> subst w
  · exact absurd ei z0
  · exact absurd ei z1
end
section
/-! evaluation of expressions on both sides -/
def mx_H (kd fA fB : Nat → Nat) (n nv na np c : Nat) (ki fa fb bf ch bs sE : Nat → Int32) : Prop :=
  (n ≤ 8 ∧ nv ≤ 8 ∧ na ≤ 4 ∧ np ≤ 3 ∧ c ≤ 64) ∧ pg_C kd np c ∧ sm_F kd fA fB n nv na np c ∧ zz_k ki kd c ∧ (∀ i, i < c → ¬ kd i = 9 → fa i = nI (fA i)) ∧ (∀ i, i < c → fb i = nI (fB i)) ∧ px_H kd np c bf ch bs ∧ (∀ i, i < c → sE i = nI (pg_en kd c i))
def my_H (kd fA fB : Nat → Nat) (n nv na np c : Nat) (ki fa fb : Nat → Int32) : Prop :=
  (n ≤ 8 ∧ nv ≤ 8 ∧ na ≤ 4 ∧ np ≤ 3 ∧ c ≤ 64) ∧ pg_C kd np c ∧ sm_F kd fA fB n nv na np c ∧ zz_k ki kd c ∧ (∀ i, i < c → ¬ kd i = 9 → fa i = nI (fA i)) ∧ (∀ i, i < c → fb i = nI (fB i))
/-- tokens inside an expression are expressions -/
theorem pg_ein {kd : Nat → Nat} {np c : Nat} (C : pg_C kd np c) (h15 : ∀ i, i < c → kd i < 15) : ∀ e, e < c → 9 ≤ kd e → ∀ i, e ≤ i → i < pg_en kd c e → 9 ≤ kd i ∧ pg_en kd c i ≤ pg_en kd c e := by
  refine pg_ie ?_
  intro e he h9 ih i h1 h2
  by_cases ei : i = e
  · subst ei; exact ⟨h9, Nat.le_refl _⟩
  have := h15 e he
  have hk : (kd e = 9 ∨ kd e = 10 ∨ kd e = 12) ∨ (kd e = 11 ∨ kd e = 14) ∨ kd e = 13 := by omega
  rcases hk with z | z | z
  · have := pg_k0 C he (by omega)
    omega
  · obtain ⟨a1, a2, a3⟩ := pg_k1 C he (by omega)
    rw [a3] at h2 ⊢
    exact ih (e + 1) (by omega) a1 a2 i (by omega) h2
  · obtain ⟨a1, a2, a3, a4, a5, a6⟩ := pg_k2 C he (by omega)
    have := (pg_enlt C a4).1
    rw [a6] at h2 ⊢
    rcases Nat.lt_or_ge i (pg_en kd c (e + 1)) with w | w
    · obtain ⟨b1, b2⟩ := ih (e + 1) (by omega) a1 a2 i (by omega) w
      exact ⟨b1, by omega⟩
    · exact ih _ (by omega) a4 a5 i w h2
theorem bz_k7 {k : Nat} (h : k < 7) : k = 0 ∨ k = 1 ∨ k = 2 ∨ k = 3 ∨ k = 4 ∨ k = 5 ∨ k = 6 := by omega
theorem bz_484 (r a : Nat) : nI r * 48 + nI a * 4 = nI (r * 48 + a * 4) := by rw [show (48 : Int32) = nI 48 from rfl, show (4 : Int32) = nI 4 from rfl, pk_mul, pk_mul, nI_add]
section
variable {n nv na np c : Nat} {sl bo pt iS fc rS cT aC tk : Int32} {od jo loB hiB ki fa fb bf ch bs ps pb pp wS wT sB tL ip me eS oC oL oV dC dT dK co cP cR sE eV : Nat → Int32}
variable {kd fA fB : Nat → Nat}
theorem xw_op {o : Nat} (ho : o < 7) {l r : Int32} {post : Int32 → Prop} (h : post (ma_op o l r)) : wpX_operate post (nI n, nI nv, nI na, nI np, nI (nv + na), nI (nv + na + 3 * np), sl, bo, nI c, pt, iS, fc, rS, cT, aC, tk, od, jo, loB, hiB, ki, fa, fb, bf, ch, bs, ps, pb, pp, wS, wT, sB, tL, ip, me, eS, oC, oL, oV, dC, dT, dK, co, cP, cR, sE, eV) (nI o) l r := by
  unfold ma_op at h
  rcases bz_k7 ho with rfl | rfl | rfl | rfl | rfl | rfl | rfl
  · exact br_f (by decide) (br_f (by decide) (br_t rfl h))
  · exact br_f (by decide) (br_f (by decide) (br_f (by decide) (br_t rfl h)))
  · exact br_f (by decide) (br_f (by decide) (br_f (by decide) (br_f (by decide) (br_t rfl h))))
  · refine br_f (by decide) (br_f (by decide) (br_f (by decide) (br_f (by decide) (br_f (by decide) (br_t rfl ?_)))))
    rw [if_neg (by decide), if_neg (by decide), if_neg (by decide), if_pos rfl] at h
    by_cases z : r = 0
    · rw [if_pos z] at h; exact br_t z h
    · rw [if_neg z] at h; exact br_f z ⟨z, h⟩
  · refine br_f (by decide) (br_f (by decide) (br_f (by decide) (br_f (by decide) (br_f (by decide) (br_f (by decide) (br_t rfl ?_))))))
    rw [if_neg (by decide), if_neg (by decide), if_neg (by decide), if_neg (by decide), if_pos rfl] at h
    by_cases z : r ≤ l
    · rw [if_pos z] at h; exact br_t z h
    · rw [if_neg z] at h; exact br_f z h
  · refine br_f (by decide) (br_f (by decide) (br_f (by decide) (br_f (by decide) (br_f (by decide) (br_f (by decide) (br_f (by decide) (br_t rfl ?_)))))))
    rw [if_neg (by decide), if_neg (by decide), if_neg (by decide), if_neg (by decide), if_neg (by decide), if_pos rfl] at h
    by_cases z : l = r
    · rw [if_pos z] at h; exact br_t z h
    · rw [if_neg z] at h; exact br_f z h
  · exact br_f (by decide) (br_t (by decide) h)
theorem xw_tv (H : mx_H kd fA fB n nv na np c ki fa fb bf ch bs sE) {run d : Nat} (hrun : run < 2) (hd : d ≤ 6) {v : Nat → Int32} (hV : ma_V kd fA fa nv c me run d cP v) {i : Nat} (hi : i < c) (h9 : 9 ≤ kd i) (hc1 : 0 < pg_ar (kd i) → eV (i + 1) = v (i + 1)) (hc2 : 1 < pg_ar (kd i) → eV (pg_en kd c (i + 1)) = v (pg_en kd c (i + 1))) {post : Int32 → Prop} (hp : post (v i)) : wpX_tokenValue post (nI n, nI nv, nI na, nI np, nI (nv + na), nI (nv + na + 3 * np), sl, bo, nI c, pt, iS, fc, rS, cT, nI d, tk, od, jo, loB, hiB, ki, fa, fb, bf, ch, bs, ps, pb, pp, wS, wT, sB, tL, ip, me, eS, oC, oL, oV, dC, dT, dK, co, cP, cR, sE, eV) (nI run) (nI i) := by
  obtain ⟨⟨hn, hnv, hna, hnp, hc⟩, C, F, hk, hfa, hfb, hH, hsE⟩ := H
  obtain ⟨k1, k2⟩ := hk i hi
  obtain ⟨e1, e2, e3, e4, e5, e6⟩ := hV i hi h9
  obtain ⟨f1, f2, f3, f4, f5, f6, f7⟩ := F i hi
  have iv : vp_in (nI i) 64 := vp_in_nI (by omega) (by decide)
  refine And.intro iv ?_
  rw [nI_clamp (n := i) (by omega), k1]
  refine nm_e ?_
  have hkk : kd i = 9 ∨ kd i = 10 ∨ kd i = 11 ∨ kd i = 12 ∨ kd i = 13 ∨ kd i = 14 := by omega
  rcases hkk with z | z | z | z | z | z
  · rw [z]
    repeat (first | refine br_t (by decide) ?_ | refine br_f (by decide) ?_)
    rw [e1 z] at hp
    exact And.intro iv hp
  · have g := hfa i hi (by omega)
    have fv := f2 (Or.inr z)
    rw [z]
    repeat (first | refine br_t (by decide) ?_ | refine br_f (by decide) ?_)
    rw [g, bz_484, nI_clamp (n := run * 48 + fA i * 4) (by omega)]
    rw [e2 z] at hp
    exact And.intro iv (And.intro (vp_in_nI (by omega) (by decide)) hp)
  · have g := hfa i hi (by omega)
    have fv := f3 (Or.inr z)
    have ar1 : 0 < pg_ar (kd i) := by rw [z]; decide
    obtain ⟨c1, c2⟩ := xi_c0 hH C hi ar1
    have q1 := hc1 ar1
    rw [z]
    repeat (first | refine br_t (by decide) ?_ | refine br_f (by decide) ?_)
    rw [bz_3, nI_clamp (n := 3 * i) (by omega), c1, nI_clamp (n := i + 1) (by omega), q1, g, nI_add, bz_484]
    refine And.intro (vp_in_nI (by omega) (by decide)) (And.intro (vp_in_nI (by omega) (by decide)) (nm_e ?_))
    have e3' := e3 z
    unfold ma_cl at e3'
    refine xw_in (v (i + 1)) (k := 4) (by decide) (fun j hj ej => br_f (by decide) ?_) (fun w => br_t rfl ?_) rfl
    · rw [ej, nI_add, nI_clamp (n := run * 48 + (nv + fA i) * 4 + j) (by omega)]
      rw [ej, if_pos ⟨nI_pos' (by omega), nI_lt (b := 4) hj (by decide)⟩, nI_clamp (by omega)] at e3'
      rw [e3'] at hp
      exact And.intro iv (And.intro (vp_in_nI (by omega) (by decide)) hp)
    · rw [if_neg (fun q => by rcases w with w | w; exact Int32.not_lt.mpr q.1 w; exact Int32.not_lt.mpr w.2 q.2)] at e3'
      rw [e3'] at hp
      exact hp
  · have e4' := e4 z
    rw [z]
    repeat (first | refine br_t (by decide) ?_ | refine br_f (by decide) ?_)
    refine pk_eq d 0 (fun w => ?_) (fun w => ?_) rfl rfl (by omega) (by omega)
    · rw [if_pos w] at e4'
      rw [e4'] at hp; exact hp
    · rw [if_neg w] at e4'
      rw [e4'] at hp
      rw [bz_s1 (by omega), nI_clamp (n := d - 1) (by omega)]
      exact And.intro (vp_in_nI (by omega) (by decide)) hp
  · have g := hfa i hi (by omega)
    have fv := f6 z
    have ar1 : 0 < pg_ar (kd i) := by rw [z]; decide
    have ar2 : 1 < pg_ar (kd i) := by rw [z]; decide
    obtain ⟨c1, c2⟩ := xi_c0 hH C hi ar1
    obtain ⟨c3, c4⟩ := xi_c1 hH C hi ar2
    have q1 := hc1 ar1
    have q2 := hc2 ar2
    rw [z]
    repeat (first | refine br_t (by decide) ?_ | refine br_f (by decide) ?_)
    rw [bz_3, bz_31, nI_clamp (n := 3 * i) (by omega), nI_clamp (n := 3 * i + 1) (by omega), c1, c3, nI_clamp (n := i + 1) (by omega), nI_clamp (n := pg_en kd c (i + 1)) (by omega), q1, q2, g]
    rw [e5 z] at hp
    exact And.intro iv (And.intro (vp_in_nI (by omega) (by decide)) (And.intro (vp_in_nI (by omega) (by decide)) (And.intro (vp_in_nI (by omega) (by decide)) (And.intro (vp_in_nI (by omega) (by decide)) (xw_op fv hp)))))
  · have ar1 : 0 < pg_ar (kd i) := by rw [z]; decide
    obtain ⟨c1, c2⟩ := xi_c0 hH C hi ar1
    have q1 := hc1 ar1
    rw [z]
    repeat (first | refine br_t (by decide) ?_ | refine br_f (by decide) ?_)
    rw [bz_3, nI_clamp (n := 3 * i) (by omega), c1, nI_clamp (n := i + 1) (by omega), q1]
    rw [e6 z] at hp
    exact And.intro (vp_in_nI (by omega) (by decide)) (And.intro (vp_in_nI (by omega) (by decide)) hp)
/-- the children of a token inside an expression -/
theorem pg_ekid (C : pg_C kd np c) (h15 : ∀ i, i < c → kd i < 15) {e i : Nat} (he : e < c) (h9 : 9 ≤ kd e) (h1 : e ≤ i) (h2 : i < pg_en kd c e) : (0 < pg_ar (kd i) → i + 1 < pg_en kd c e) ∧ (1 < pg_ar (kd i) → i < pg_en kd c (i + 1) ∧ pg_en kd c (i + 1) < pg_en kd c e) := by
  have hee := (pg_enlt C he).2
  obtain ⟨a1, a2⟩ := pg_ein C h15 e he h9 i h1 h2
  have hi : i < c := by omega
  have := h15 i hi
  have hk : (kd i = 9 ∨ kd i = 10 ∨ kd i = 12) ∨ (kd i = 11 ∨ kd i = 14) ∨ kd i = 13 := by omega
  rcases hk with z | z | z
  · have := pg_ar0 (k := kd i) (by omega)
    exact ⟨fun w => by omega, fun w => by omega⟩
  · obtain ⟨b1, b2, b3⟩ := pg_k1 C hi (by omega)
    have := pg_ar1 (k := kd i) (by omega)
    have := (pg_enlt C b1).1
    exact ⟨fun w => by omega, fun w => by omega⟩
  · obtain ⟨b1, b2, b3, b4, b5, b6⟩ := pg_k2 C hi (by omega)
    have := (pg_enlt C b4).1
    exact ⟨fun w => by omega, fun w => ⟨by omega, by omega⟩⟩
theorem xw_ev9 (H : mx_H kd fA fB n nv na np c ki fa fb bf ch bs sE) {run d : Nat} (hrun : run < 2) (hd : d ≤ 6) {v : Nat → Int32} (hV : ma_V kd fA fa nv c me run d cP v) {e : Nat} (he : e < c) (h9 : 9 ≤ kd e) {post : Int32 → SX → Prop} (hp : ∀ eV, post (v e) (nI n, nI nv, nI na, nI np, nI (nv + na), nI (nv + na + 3 * np), sl, bo, nI c, pt, iS, fc, rS, cT, nI d, tk, od, jo, loB, hiB, ki, fa, fb, bf, ch, bs, ps, pb, pp, wS, wT, sB, tL, ip, me, eS, oC, oL, oV, dC, dT, dK, co, cP, cR, sE, eV)) :
    ∀ f k m eV, k = e + f → k ≤ pg_en kd c e → f < m → (∀ q, k ≤ q → q < pg_en kd c e → eV q = v q) → wX_evaluate_9 post (nI run) (nI e) (nI n) (nI nv) (nI na) (nI np) (nI (nv + na)) (nI (nv + na + 3 * np)) sl bo (nI c) pt iS fc rS cT (nI d) tk m (nI k + (-1)) od jo loB hiB ki fa fb bf ch bs ps pb pp wS wT sB tL ip me eS oC oL oV dC dT dK co cP cR sE eV := by
  have H' := H
  obtain ⟨⟨hn, hnv, hna, hnp, hc⟩, C, F, hk, hfa, hfb, hH, hsE⟩ := H
  have hee := (pg_enlt C he)
  have h15 : ∀ i, i < c → kd i < 15 := fun i hi => (hk i hi).2
  intro f
  induction f with
  | zero =>
    intro k m eV hk' hke hm hI
    obtain ⟨m, rfl⟩ : ∃ e, m = e + 1 := ⟨m - 1, by omega⟩
    have ek : k = e := by omega
    subst ek
    have lt : nI k + (-1) < nI k := by
      cases k with
      | zero => rw [bz_m0]; decide
      | succ k => rw [pk_m1]; exact nI_lt (by omega) (by omega)
    refine br_t lt (And.intro (vp_in_nI (by omega) (by decide)) ?_)
    rw [nI_clamp (n := k) (by omega), hI k (Nat.le_refl _) hee.1]
    exact hp eV
  | succ f ih =>
    intro k m eV hk' hke hm hI
    obtain ⟨m, rfl⟩ : ∃ e, m = e + 1 := ⟨m - 1, by omega⟩
    obtain ⟨i, rfl⟩ : ∃ i, k = i + 1 := ⟨k - 1, by omega⟩
    rw [pk_m1]
    refine br_f (nI_nlt (by omega) (by omega)) ?_
    obtain ⟨g1, g2⟩ := pg_ekid C h15 he h9 (i := i) (by omega) (by omega)
    have hi9 := (pg_ein C h15 e he h9 i (by omega) (by omega)).1
    refine xw_tv H' hrun hd hV (by omega) hi9 (fun w => hI _ (Nat.le_refl _) (g1 w)) (fun w => hI _ (by have := g2 w; omega) (g2 w).2) ?_
    rw [nI_clamp (n := i) (by omega)]
    refine And.intro (vp_in_nI (by omega) (by decide)) (nm_e (nm_e (ih i m _ (by omega) (by omega) (by omega) (fun q q1 q2 => bz_uk (fun e => by rw [e]) (fun e => hI q (by omega) q2)))))
theorem xw_eval (H : mx_H kd fA fB n nv na np c ki fa fb bf ch bs sE) {run d : Nat} (hrun : run < 2) (hd : d ≤ 6) {v : Nat → Int32} (hV : ma_V kd fA fa nv c me run d cP v) {e : Nat} (he : e < c) (h9 : 9 ≤ kd e) {post : Int32 → SX → Prop} (hp : ∀ eV, post (v e) (nI n, nI nv, nI na, nI np, nI (nv + na), nI (nv + na + 3 * np), sl, bo, nI c, pt, iS, fc, rS, cT, nI d, tk, od, jo, loB, hiB, ki, fa, fb, bf, ch, bs, ps, pb, pp, wS, wT, sB, tL, ip, me, eS, oC, oL, oV, dC, dT, dK, co, cP, cR, sE, eV)) {x : Int32} (hx : x = nI e) : wpX_evaluate post (nI n, nI nv, nI na, nI np, nI (nv + na), nI (nv + na + 3 * np), sl, bo, nI c, pt, iS, fc, rS, cT, nI d, tk, od, jo, loB, hiB, ki, fa, fb, bf, ch, bs, ps, pb, pp, wS, wT, sB, tL, ip, me, eS, oC, oL, oV, dC, dT, dK, co, cP, cR, sE, eV) (nI run) x := by
  subst hx
  have H' := H
  obtain ⟨⟨hn, hnv, hna, hnp, hc⟩, C, F, hk, hfa, hfb, hH, hsE⟩ := H
  have hee := (pg_enlt C he)
  refine And.intro (vp_in_nI (by omega) (by decide)) ?_
  rw [nI_clamp (n := e) (by omega), hsE e he]
  intro y ey
  rw [show y = nI (pg_en kd c e) + (-1) from by rw [ey]; grind]
  exact ⟨65, xw_ev9 H' hrun hd hV he h9 hp (pg_en kd c e - e) (pg_en kd c e) 65 eV (by omega) (Nat.le_refl _) (by omega) (fun q q1 q2 => by omega)⟩
end
end
section
/-! the reference's evaluation -/
section
variable {n nv na np c : Nat} {sl iS rS yC yF bo yD yA yT : Int32} {od yB yL yE ki fa fb yV eS oC dC yK cP cR oL oV dT dK : Nat → Int32}
variable {kd fA fB : Nat → Nat} {me ip : Nat → Int32}
theorem yw_op {o : Nat} (ho : o < 7) {l r : Int32} {post : Int32 → Prop} (h : post (ma_op o l r)) : wpY_operate post (nI n, nI nv, nI na, nI np, nI (nv + na), nI (nv + na + 3 * np), sl, iS, rS, yC, yF, bo, nI c, yD, yA, yT, od, yB, yL, yE, ki, fa, fb, yV, eS, oC, dC, yK, cP, cR, oL, oV, dT, dK) (nI o) l r := by
  unfold ma_op at h
  rcases bz_k7 ho with rfl | rfl | rfl | rfl | rfl | rfl | rfl
  · exact br_f (by decide) (br_t rfl h)
  · exact br_f (by decide) (br_f (by decide) (br_t rfl h))
  · exact br_f (by decide) (br_f (by decide) (br_f (by decide) (br_t rfl h)))
  · refine br_t rfl ?_
    rw [if_neg (by decide), if_neg (by decide), if_neg (by decide), if_pos rfl] at h
    by_cases z : r = 0
    · rw [if_pos z] at h; exact br_t z h
    · rw [if_neg z] at h; exact br_f z ⟨z, h⟩
  · refine br_f (by decide) (br_f (by decide) (br_f (by decide) (br_f (by decide) (br_t rfl ?_))))
    rw [if_neg (by decide), if_neg (by decide), if_neg (by decide), if_neg (by decide), if_pos rfl] at h
    by_cases z : r ≤ l
    · rw [if_pos z] at h; exact br_t z h
    · rw [if_neg z] at h; exact br_f z h
  · refine br_f (by decide) (br_f (by decide) (br_f (by decide) (br_f (by decide) (br_f (by decide) (br_t rfl ?_)))))
    rw [if_neg (by decide), if_neg (by decide), if_neg (by decide), if_neg (by decide), if_neg (by decide), if_pos rfl] at h
    by_cases z : l = r
    · rw [if_pos z] at h; exact br_t z h
    · rw [if_neg z] at h; exact br_f z h
  · exact br_f (by decide) (br_f (by decide) (br_f (by decide) (br_f (by decide) (br_f (by decide) (br_f (by decide) h)))))
theorem yw_ev43 (H : my_H kd fA fB n nv na np c ki fa fb) {run d : Nat} (hrun : run < 2) (hd : d ≤ 6) (hE : yE = gl 96 ip me) {v : Nat → Int32} (hV : ma_V kd fA fa nv c me run d cP v) {i : Nat} (hi : i < c) (h9 : 9 ≤ kd i) {x e : Int32} (hc1 : 0 < pg_ar (kd i) → x = v (i + 1)) (hc2 : 1 < pg_ar (kd i) → yV (pg_en kd c (i + 1)) = v (pg_en kd c (i + 1))) {post : Int32 → SY → Prop} {J8 : Int32 → (Nat → Int32) → (Nat → Int32) → (Nat → Int32) → (Nat → Int32) → (Nat → Int32) → (Nat → Int32) → (Nat → Int32) → (Nat → Int32) → (Nat → Int32) → (Nat → Int32) → (Nat → Int32) → (Nat → Int32) → (Nat → Int32) → (Nat → Int32) → (Nat → Int32) → (Nat → Int32) → (Nat → Int32) → (Nat → Int32) → Prop}
    (hJ : J8 (nI i + (-1)) od yB yL yE ki fa fb (upd yV i (v i)) eS oC dC yK cP cR oL oV dT dK) : wY_eval_43 post J8 e (nI run) (nI i) (nI (kd i)) x (nI n) (nI nv) (nI na) (nI np) (nI (nv + na)) (nI (nv + na + 3 * np)) sl iS rS yC yF bo (nI c) (nI d) yA yT od yB yL yE ki fa fb yV eS oC dC yK cP cR oL oV dT dK := by
  obtain ⟨⟨hn, hnv, hna, hnp, hc⟩, C, F, hk, hfa, hfb⟩ := H
  obtain ⟨k1, k2⟩ := hk i hi
  obtain ⟨e1, e2, e3, e4, e5, e6⟩ := hV i hi h9
  obtain ⟨f1, f2, f3, f4, f5, f6, f7⟩ := F i hi
  have iv : vp_in (nI i) 64 := vp_in_nI (by omega) (by decide)
  have ei : (nI i).toNatClampNeg = i := nI_clamp (by omega)
  have fin : ∀ y, y = v i → ¬ kd i = 13 → wY_eval_165 post J8 e (nI run) (nI i) (nI (kd i)) y (nI n) (nI nv) (nI na) (nI np) (nI (nv + na)) (nI (nv + na + 3 * np)) sl iS rS yC yF bo (nI c) (nI d) yA yT od yB yL yE ki fa fb yV eS oC dC yK cP cR oL oV dT dK := by
    intro y ey h13
    refine br_f (fun w => h13 ((nI_eq (b := 13) (by omega) (by decide)).mp w)) (And.intro iv ?_)
    rw [ei, ey]
    exact nm_e (nm_e hJ)
  have hkk : kd i = 9 ∨ kd i = 10 ∨ kd i = 11 ∨ kd i = 12 ∨ kd i = 13 ∨ kd i = 14 := by omega
  rcases hkk with z | z | z | z | z | z
  · refine br_t (by rw [z]; rfl) (And.intro iv ?_)
    rw [ei]
    refine nm_e ?_
    exact br_f (by rw [z]; decide) (br_f (by rw [z]; decide) (br_f (by rw [z]; decide) (fin _ (e1 z).symm (by omega))))
  · have g := hfa i hi (by omega)
    have fv := f2 (Or.inr z)
    refine br_f (by rw [z]; decide) (br_t (by rw [z]; rfl) (And.intro iv ?_))
    rw [ei, g]
    refine yw_idx (a := 1) (b := run) (s := fA i) (q := 0) ?_ rfl rfl rfl rfl
    rw [nI_clamp (n := 1 * 96 + run * 48 + fA i * 4 + 0) (by omega)]
    refine And.intro (vp_in_nI (by omega) (by decide)) (nm_e ?_)
    refine br_f (by rw [z]; decide) (br_f (by rw [z]; decide) (fin _ ?_ (by omega)))
    rw [e2 z, hE, show 1 * 96 + run * 48 + fA i * 4 + 0 = 96 + (run * 48 + fA i * 4) by omega, gl_hi]
  · have g := hfa i hi (by omega)
    have fv := f3 (Or.inr z)
    have q1 := hc1 (by rw [z]; decide)
    have e3' := e3 z
    unfold ma_cl at e3'
    rw [← q1] at e3'
    refine br_f (by rw [z]; decide) (br_f (by rw [z]; decide) (br_t (by rw [z]; rfl) ?_))
    refine yw_in x (k := 4) (by decide) (fun j hj ej => br_f (by decide) ?_) (fun w => br_t rfl ?_) rfl
    · rw [ei, g, nI_add]
      refine And.intro iv ?_
      rw [ej, if_pos ⟨nI_pos' (by omega), nI_lt (b := 4) hj (by decide)⟩, nI_clamp (by omega)] at e3'
      refine yw_idx (a := 1) (b := run) (s := nv + fA i) (q := j) ?_ rfl rfl rfl ej
      rw [nI_clamp (n := 1 * 96 + run * 48 + (nv + fA i) * 4 + j) (by omega)]
      refine And.intro (vp_in_nI (by omega) (by decide)) ?_
      refine br_f (by rw [z]; decide) (fin _ ?_ (by omega))
      rw [e3', hE, show 1 * 96 + run * 48 + (nv + fA i) * 4 + j = 96 + (run * 48 + (nv + fA i) * 4 + j) by omega, gl_hi]
    · rw [if_neg (fun q => by rcases w with w | w; exact Int32.not_lt.mpr q.1 w; exact Int32.not_lt.mpr w.2 q.2)] at e3'
      exact br_f (by rw [z]; decide) (fin _ e3'.symm (by omega))
  · have e4' := e4 z
    refine br_f (by rw [z]; decide) (br_f (by rw [z]; decide) (br_f (by rw [z]; decide) (br_t (by rw [z]; rfl) ?_)))
    refine pk_le d 0 (fun w => ?_) (fun w => ?_) rfl rfl (by omega) (by omega)
    · rw [if_pos (by omega)] at e4'
      exact fin _ e4'.symm (by omega)
    · rw [if_neg (by omega)] at e4'
      rw [bz_s1 (by omega), nI_clamp (n := d - 1) (by omega)]
      exact And.intro (vp_in_nI (by omega) (by decide)) (fin _ e4'.symm (by omega))
  · have g := hfa i hi (by omega)
    have fv := f6 z
    have q1 := hc1 (by rw [z]; decide)
    have q2 := hc2 (by rw [z]; decide)
    obtain ⟨a1, a2, a3, a4, a5, a6⟩ := pg_k2 C hi (by omega)
    refine br_f (by rw [z]; decide) (br_f (by rw [z]; decide) (br_f (by rw [z]; decide) (br_f (by rw [z]; decide) (br_t (by rw [z]; rfl) ?_))))
    refine yw_end hk hc (i := i + 1) (by omega) ?_ (nI_1 i)
    rw [ei, nI_clamp (n := pg_en kd c (i + 1)) (by omega), q2, g, q1]
    refine And.intro iv (And.intro (vp_in_nI (by omega) (by decide)) ?_)
    refine yw_op fv ?_
    rw [← e5 z]
    exact And.intro iv (nm_e (nm_e hJ))
  · have q1 := hc1 (by rw [z]; decide)
    exact br_f (by rw [z]; decide) (br_f (by rw [z]; decide) (br_f (by rw [z]; decide) (br_f (by rw [z]; decide) (fin _ (by rw [q1, e6 z]) (by omega)))))
theorem yw_ev8 (H : my_H kd fA fB n nv na np c ki fa fb) {run d : Nat} (hrun : run < 2) (hd : d ≤ 6) (hE : yE = gl 96 ip me) {v : Nat → Int32} (hV : ma_V kd fA fa nv c me run d cP v) {e : Nat} (he : e < c) (h9 : 9 ≤ kd e) {post : Int32 → SY → Prop} (hp : ∀ yV, post (v e) (nI n, nI nv, nI na, nI np, nI (nv + na), nI (nv + na + 3 * np), sl, iS, rS, yC, yF, bo, nI c, nI d, yA, yT, od, yB, yL, yE, ki, fa, fb, yV, eS, oC, dC, yK, cP, cR, oL, oV, dT, dK)) :
    ∀ f k m yV, k = e + f → k ≤ pg_en kd c e → f < m → (∀ q, k ≤ q → q < pg_en kd c e → yV q = v q) → wY_eval_8 post (nI e) (nI run) (nI n) (nI nv) (nI na) (nI np) (nI (nv + na)) (nI (nv + na + 3 * np)) sl iS rS yC yF bo (nI c) (nI d) yA yT m (nI k + (-1)) od yB yL yE ki fa fb yV eS oC dC yK cP cR oL oV dT dK := by
  have H' := H
  obtain ⟨⟨hn, hnv, hna, hnp, hc⟩, C, F, hk, hfa, hfb⟩ := H
  have hee := (pg_enlt C he)
  have h15 : ∀ i, i < c → kd i < 15 := fun i hi => (hk i hi).2
  intro f
  induction f with
  | zero =>
    intro k m yV hk' hke hm hI
    obtain ⟨m, rfl⟩ : ∃ e, m = e + 1 := ⟨m - 1, by omega⟩
    have ek : k = e := by omega
    subst ek
    have lt : nI k + (-1) < nI k := by
      cases k with
      | zero => rw [bz_m0]; decide
      | succ k => rw [pk_m1]; exact nI_lt (by omega) (by omega)
    refine br_t lt (And.intro (vp_in_nI (by omega) (by decide)) ?_)
    rw [nI_clamp (n := k) (by omega), hI k (Nat.le_refl _) hee.1]
    exact hp yV
  | succ f ih =>
    intro k m yV hk' hke hm hI
    obtain ⟨m, rfl⟩ : ∃ e, m = e + 1 := ⟨m - 1, by omega⟩
    obtain ⟨i, rfl⟩ : ∃ i, k = i + 1 := ⟨k - 1, by omega⟩
    obtain ⟨k1, k2⟩ := hk i (by omega)
    rw [pk_m1]
    refine br_f (nI_nlt (by omega) (by omega)) ?_
    obtain ⟨g1, g2⟩ := pg_ekid C h15 he h9 (i := i) (by omega) (by omega)
    have hi9 := (pg_ein C h15 e he h9 i (by omega) (by omega)).1
    rw [nI_clamp (n := i) (by omega), k1, nI_1]
    refine And.intro (vp_in_nI (by omega) (by decide)) (nm_e ?_)
    have go : ∀ x, (0 < pg_ar (kd i) → x = v (i + 1)) → wY_eval_43 post (wY_eval_8 post (nI e) (nI run) (nI n) (nI nv) (nI na) (nI np) (nI (nv + na)) (nI (nv + na + 3 * np)) sl iS rS yC yF bo (nI c) (nI d) yA yT m) (nI e) (nI run) (nI i) (nI (kd i)) x (nI n) (nI nv) (nI na) (nI np) (nI (nv + na)) (nI (nv + na + 3 * np)) sl iS rS yC yF bo (nI c) (nI d) yA yT od yB yL yE ki fa fb yV eS oC dC yK cP cR oL oV dT dK := by
      intro x hx
      refine yw_ev43 H' hrun hd hE hV (by omega) hi9 hx (fun w => hI _ (by have := g2 w; omega) (g2 w).2) ?_
      exact ih i m _ (by omega) (by omega) (by omega) (fun q q1 q2 => bz_uk (fun e => by rw [e]) (fun e => hI q (by omega) q2))
    refine pk_le c (i + 1) (fun w => go 0 (fun z => by have := g1 z; omega)) (fun w => And.intro (vp_in_nI (by omega) (by decide)) ?_) rfl rfl (by omega) (by omega)
    rw [nI_clamp (n := i + 1) (by omega)]
    exact go _ (fun z => hI _ (Nat.le_refl _) (g1 z))
theorem yw_eval (H : my_H kd fA fB n nv na np c ki fa fb) {run d : Nat} (hrun : run < 2) (hd : d ≤ 6) (hE : yE = gl 96 ip me) {v : Nat → Int32} (hV : ma_V kd fA fa nv c me run d cP v) {e : Nat} (he : e < c) (h9 : 9 ≤ kd e) {post : Int32 → SY → Prop} (hp : ∀ yV, post (v e) (nI n, nI nv, nI na, nI np, nI (nv + na), nI (nv + na + 3 * np), sl, iS, rS, yC, yF, bo, nI c, nI d, yA, yT, od, yB, yL, yE, ki, fa, fb, yV, eS, oC, dC, yK, cP, cR, oL, oV, dT, dK)) {x : Int32} (hx : x = nI e) : wpY_eval post (nI n, nI nv, nI na, nI np, nI (nv + na), nI (nv + na + 3 * np), sl, iS, rS, yC, yF, bo, nI c, nI d, yA, yT, od, yB, yL, yE, ki, fa, fb, yV, eS, oC, dC, yK, cP, cR, oL, oV, dT, dK) x (nI run) := by
  subst hx
  have H' := H
  obtain ⟨⟨hn, hnv, hna, hnp, hc⟩, C, F, hk, hfa, hfb⟩ := H
  have hee := (pg_enlt C he)
  refine yw_end hk hc (i := e) (by omega) ?_ rfl
  intro y ey
  rw [show y = nI (pg_en kd c e) + (-1) from by rw [ey]; grind]
  exact ⟨65, yw_ev8 H' hrun hd hE hV he h9 hp (pg_en kd c e - e) (pg_en kd c e) 65 yV (by omega) (Nat.le_refl _) (by omega) (fun q q1 q2 => by omega)⟩
end
end
section
/-! one statement of the component's machine -/
def ma_st (me : Nat → Int32) (base : Nat) (x y : Int32) : Nat → Int32 := if 0 ≤ x ∧ x < 4 then upd me (base + x.toNatClampNeg) y else me
def ma_bz (x : Int32) : Int32 := if x = 0 then 0 else 1
section
variable {n nv na np c : Nat} {sl bo pt iS fc rS cT aC tk : Int32} {od jo loB hiB ki fa fb bf ch bs ps pb pp wS wT sB tL ip me eS oC oL oV dC dT dK co cP cR sE eV : Nat → Int32}
variable {kd fA fB : Nat → Nat}
theorem xw_pc {h : Nat} (hh : h < 512) {x : Int32} {post : SX → Prop} (hp : post (nI n, nI nv, nI na, nI np, nI (nv + na), nI (nv + na + 3 * np), sl, bo, nI c, pt, iS, fc, rS, nI (h + 1), aC, tk, od, jo, loB, hiB, ki, fa, fb, bf, ch, bs, ps, pb, pp, wS, wT, sB, tL, ip, me, eS, oC, oL, oV, dC, dT, dK, upd co h x, cP, cR, sE, eV)) : wpX_pushControl post (nI n, nI nv, nI na, nI np, nI (nv + na), nI (nv + na + 3 * np), sl, bo, nI c, pt, iS, fc, rS, nI h, aC, tk, od, jo, loB, hiB, ki, fa, fb, bf, ch, bs, ps, pb, pp, wS, wT, sB, tL, ip, me, eS, oC, oL, oV, dC, dT, dK, co, cP, cR, sE, eV) x := by
  refine br_f (nI_ge (b := 512) hh (by decide)) (And.intro (vp_in_nI hh (by decide)) ?_)
  rw [nI_clamp (n := h) (by omega)]
  exact nm_e (nm_r (nI_1 h) hp)
/-- the way into a statement -/
theorem xw_es (H : mx_H kd fA fB n nv na np c ki fa fb bf ch bs sE) {a : Nat} (ha : a < c) {run : Nat} {post : SX → Prop} (h0 : kd a = 0 → post (nI n, nI nv, nI na, nI np, nI (nv + na), nI (nv + na + 3 * np), sl, bo, nI c, pt, iS, fc, rS, cT, aC, tk, od, jo, loB, hiB, ki, fa, fb, bf, ch, bs, ps, pb, pp, wS, wT, sB, tL, ip, me, eS, oC, oL, oV, dC, dT, dK, co, cP, cR, sE, eV))
    (h1 : kd a = 1 → vp_in (nI a) 64 ∧ wpX_evaluate (fun r u => match u with | (f0, f1, f2, f3, f4, f5, sl, bo, f6, pt, iS, fc, rS, cT, aC, tk, od, jo, loB, hiB, ki, g1, fb, bf, ch, bs, ps, pb, pp, wS, wT, sB, tL, ip, me, eS, oC, oL, oV, dC, dT, dK, co, cP, cR, sE, eV) => (vp_in (nI run * 48 + fa a * 4) 96 ∧ ∀ m1 : Nat → Int32, m1 = upd me (nI run * 48 + fa a * 4).toNatClampNeg r → post (f0, f1, f2, f3, f4, f5, sl, bo, f6, pt, iS, fc, rS, cT, aC, tk, od, jo, loB, hiB, ki, g1, fb, bf, ch, bs, ps, pb, pp, wS, wT, sB, tL, ip, m1, eS, oC, oL, oV, dC, dT, dK, co, cP, cR, sE, eV))) (nI n, nI nv, nI na, nI np, nI (nv + na), nI (nv + na + 3 * np), sl, bo, nI c, pt, iS, fc, rS, cT, aC, tk, od, jo, loB, hiB, ki, fa, fb, bf, ch, bs, ps, pb, pp, wS, wT, sB, tL, ip, me, eS, oC, oL, oV, dC, dT, dK, co, cP, cR, sE, eV) (nI run) (nI (a + 1)))
    (h2 : kd a = 2 → wpX_executeStore post (nI n, nI nv, nI na, nI np, nI (nv + na), nI (nv + na + 3 * np), sl, bo, nI c, pt, iS, fc, rS, cT, aC, tk, od, jo, loB, hiB, ki, fa, fb, bf, ch, bs, ps, pb, pp, wS, wT, sB, tL, ip, me, eS, oC, oL, oV, dC, dT, dK, co, cP, cR, sE, eV) (nI run) (nI a)) (h3 : kd a = 3 → vp_in (nI (3 * a) + 1) 192 ∧ wpX_pushControl (fun u => wpX_pushControl post u (nI (a + 1))) (nI n, nI nv, nI na, nI np, nI (nv + na), nI (nv + na + 3 * np), sl, bo, nI c, pt, iS, fc, rS, cT, aC, tk, od, jo, loB, hiB, ki, fa, fb, bf, ch, bs, ps, pb, pp, wS, wT, sB, tL, ip, me, eS, oC, oL, oV, dC, dT, dK, co, cP, cR, sE, eV) (ch (nI (3 * a) + 1).toNatClampNeg))
    (h4 : kd a = 4 ∨ kd a = 5 → wpX_executeTest post (nI n, nI nv, nI na, nI np, nI (nv + na), nI (nv + na + 3 * np), sl, bo, nI c, pt, iS, fc, rS, cT, aC, tk, od, jo, loB, hiB, ki, fa, fb, bf, ch, bs, ps, pb, pp, wS, wT, sB, tL, ip, me, eS, oC, oL, oV, dC, dT, dK, co, cP, cR, sE, eV) (nI run) (nI a)) (h6 : kd a = 6 → wpX_executeCall post (nI n, nI nv, nI na, nI np, nI (nv + na), nI (nv + na + 3 * np), sl, bo, nI c, pt, iS, fc, rS, cT, aC, tk, od, jo, loB, hiB, ki, fa, fb, bf, ch, bs, ps, pb, pp, wS, wT, sB, tL, ip, me, eS, oC, oL, oV, dC, dT, dK, co, cP, cR, sE, eV) (nI run) (nI a))
    (h7 : kd a = 7 → ((aC ≤ 0 → post (nI n, nI nv, nI na, nI np, nI (nv + na), nI (nv + na + 3 * np), sl, bo, nI c, pt, iS, fc, rS, cT, aC, tk, od, jo, loB, hiB, ki, fa, fb, bf, ch, bs, ps, pb, pp, wS, wT, sB, tL, ip, me, eS, oC, oL, oV, dC, dT, dK, co, cP, cR, sE, eV)) ∧ (¬ aC ≤ 0 → wpX_evaluate (fun r u => match u with | (f0, f1, f2, f3, f4, f5, sl, bo, f6, pt, iS, fc, rS, cT, g1, tk, od, jo, loB, hiB, ki, fa, fb, bf, ch, bs, ps, pb, pp, wS, wT, sB, tL, ip, me, eS, oC, oL, oV, dC, dT, dK, co, cP, cR, sE, eV) => (vp_in (aC - 1) 6 ∧ ∀ m1 : Nat → Int32, m1 = upd cR (aC - 1).toNatClampNeg r → post (f0, f1, f2, f3, f4, f5, sl, bo, f6, pt, iS, fc, rS, cT, g1, tk, od, jo, loB, hiB, ki, fa, fb, bf, ch, bs, ps, pb, pp, wS, wT, sB, tL, ip, me, eS, oC, oL, oV, dC, dT, dK, co, cP, m1, sE, eV))) (nI n, nI nv, nI na, nI np, nI (nv + na), nI (nv + na + 3 * np), sl, bo, nI c, pt, iS, fc, rS, cT, aC, tk, od, jo, loB, hiB, ki, fa, fb, bf, ch, bs, ps, pb, pp, wS, wT, sB, tL, ip, me, eS, oC, oL, oV, dC, dT, dK, co, cP, cR, sE, eV) (nI run) (nI (a + 1)))))
    (h8 : kd a = 8 → wpX_executeOut post (nI n, nI nv, nI na, nI np, nI (nv + na), nI (nv + na + 3 * np), sl, bo, nI c, pt, iS, fc, rS, cT, aC, tk, od, jo, loB, hiB, ki, fa, fb, bf, ch, bs, ps, pb, pp, wS, wT, sB, tL, ip, me, eS, oC, oL, oV, dC, dT, dK, co, cP, cR, sE, eV) (nI run) (nI a)) (h88 : kd a ≤ 8) : wpX_executeStatement post (nI n, nI nv, nI na, nI np, nI (nv + na), nI (nv + na + 3 * np), sl, bo, nI c, pt, iS, fc, rS, cT, aC, tk, od, jo, loB, hiB, ki, fa, fb, bf, ch, bs, ps, pb, pp, wS, wT, sB, tL, ip, me, eS, oC, oL, oV, dC, dT, dK, co, cP, cR, sE, eV) (nI run) (nI a) := by
  obtain ⟨⟨hn, hnv, hna, hnp, hc⟩, C, F, hk, hfa, hfb, hH, hsE⟩ := H
  obtain ⟨k1, k2⟩ := hk a ha
  refine And.intro (by rw [bz_3]; exact vp_in_nI (by omega) (by decide)) ?_
  rw [bz_3, nI_clamp (n := 3 * a) (by omega), nI_clamp (n := a) (by omega), k1]
  have kk : kd a = 0 ∨ kd a = 1 ∨ kd a = 2 ∨ kd a = 3 ∨ kd a = 4 ∨ kd a = 5 ∨ kd a = 6 ∨ kd a = 7 ∨ kd a = 8 := by omega
  have cc : 0 < pg_ar (kd a) → ch (3 * a) = nI (a + 1) := fun w => (xi_c0 hH C ha w).1
  rcases kk with z | z | z | z | z | z | z | z | z
  · refine nm_e (And.intro (vp_in_nI (by omega) (by decide)) (nm_e ?_))
    rw [z]
    exact br_t (by decide) (h0 z)
  · rw [cc (by rw [z]; decide)]
    refine nm_e (And.intro (vp_in_nI (by omega) (by decide)) (nm_e ?_))
    rw [z]
    repeat (first | refine br_t (by decide) ?_ | refine br_f (by decide) ?_)
    exact h1 z
  · rw [cc (by rw [z]; decide)]
    refine nm_e (And.intro (vp_in_nI (by omega) (by decide)) (nm_e ?_))
    rw [z]
    repeat (first | refine br_t (by decide) ?_ | refine br_f (by decide) ?_)
    exact h2 z
  · rw [cc (by rw [z]; decide)]
    refine nm_e (And.intro (vp_in_nI (by omega) (by decide)) (nm_e ?_))
    rw [z]
    repeat (first | refine br_t (by decide) ?_ | refine br_f (by decide) ?_)
    exact h3 z
  · rw [cc (by rw [z]; decide)]
    refine nm_e (And.intro (vp_in_nI (by omega) (by decide)) (nm_e ?_))
    rw [z]
    repeat (first | refine br_t (by decide) ?_ | refine br_f (by decide) ?_)
    exact h4 (Or.inl z)
  · rw [cc (by rw [z]; decide)]
    refine nm_e (And.intro (vp_in_nI (by omega) (by decide)) (nm_e ?_))
    rw [z]
    repeat (first | refine br_t (by decide) ?_ | refine br_f (by decide) ?_)
    exact h4 (Or.inr z)
  · rw [cc (by rw [z]; decide)]
    refine nm_e (And.intro (vp_in_nI (by omega) (by decide)) (nm_e ?_))
    rw [z]
    repeat (first | refine br_t (by decide) ?_ | refine br_f (by decide) ?_)
    exact h6 z
  · rw [cc (by rw [z]; decide)]
    refine nm_e (And.intro (vp_in_nI (by omega) (by decide)) (nm_e ?_))
    rw [z]
    repeat (first | refine br_t (by decide) ?_ | refine br_f (by decide) ?_)
    exact h7 z
  · rw [cc (by rw [z]; decide)]
    refine nm_e (And.intro (vp_in_nI (by omega) (by decide)) (nm_e ?_))
    rw [z]
    repeat (first | refine br_t (by decide) ?_ | refine br_f (by decide) ?_)
    exact h8 z
theorem xw_store (H : mx_H kd fA fB n nv na np c ki fa fb bf ch bs sE) {run d : Nat} (hrun : run < 2) (hd : d ≤ 6) {v : Nat → Int32} (hV : ma_V kd fA fa nv c me run d cP v) {a : Nat} (ha : a < c) (hk2 : kd a = 2) {post : SX → Prop} (hp : ∀ eV, post (nI n, nI nv, nI na, nI np, nI (nv + na), nI (nv + na + 3 * np), sl, bo, nI c, pt, iS, fc, rS, cT, nI d, tk, od, jo, loB, hiB, ki, fa, fb, bf, ch, bs, ps, pb, pp, wS, wT, sB, tL, ip, ma_st me (run * 48 + (nv + fA a) * 4) (v (a + 1)) (v (pg_en kd c (a + 1))), eS, oC, oL, oV, dC, dT, dK, co, cP, cR, sE, eV)) : wpX_executeStore post (nI n, nI nv, nI na, nI np, nI (nv + na), nI (nv + na + 3 * np), sl, bo, nI c, pt, iS, fc, rS, cT, nI d, tk, od, jo, loB, hiB, ki, fa, fb, bf, ch, bs, ps, pb, pp, wS, wT, sB, tL, ip, me, eS, oC, oL, oV, dC, dT, dK, co, cP, cR, sE, eV) (nI run) (nI a) := by
  have H' := H
  obtain ⟨⟨hn, hnv, hna, hnp, hc⟩, C, F, hk, hfa, hfb, hH, hsE⟩ := H
  obtain ⟨a1, a2, a3, a4, a5, a6⟩ := pg_k2 C ha (Or.inl hk2)
  obtain ⟨c1, c2⟩ := xi_c0 hH C ha (by rw [hk2]; decide)
  obtain ⟨c3, c4⟩ := xi_c1 hH C ha (by rw [hk2]; decide)
  have g := hfa a ha (by omega)
  have fv := (F a ha).2.2.1 (Or.inl hk2)
  unfold ma_st at hp
  show vp_in (3 * nI a) 192 ∧ _
  rw [bz_3, nI_clamp (n := 3 * a) (by omega), c1]
  refine And.intro (vp_in_nI (by omega) (by decide)) ?_
  refine xw_eval H' hrun hd hV a1 a2 (fun eV => ?_) rfl
  show vp_in (nI (3 * a) + 1) 192 ∧ _
  rw [bz_31, nI_clamp (n := 3 * a + 1) (by omega), c3]
  refine And.intro (vp_in_nI (by omega) (by decide)) ?_
  refine xw_eval H' hrun hd hV a4 a5 (fun eV => ?_) rfl
  refine xw_in (v (a + 1)) (k := 4) (by decide) (fun j hj ej => br_f (by decide) ?_) (fun w => br_t rfl ?_) rfl
  · show vp_in (nI a) 64 ∧ _
    rw [nI_clamp (n := a) (by omega), g, nI_add, bz_484, ej, nI_add, nI_clamp (n := run * 48 + (nv + fA a) * 4 + j) (by omega)]
    refine And.intro (vp_in_nI (by omega) (by decide)) (And.intro (vp_in_nI (by omega) (by decide)) (nm_e ?_))
    have := hp eV
    rw [ej, if_pos ⟨nI_pos' (by omega), nI_lt (b := 4) hj (by decide)⟩, nI_clamp (by omega)] at this
    exact this
  · have := hp eV
    rw [if_neg (fun q => by rcases w with w | w; exact Int32.not_lt.mpr q.1 w; exact Int32.not_lt.mpr w.2 q.2)] at this
    exact this
theorem xw_test (H : mx_H kd fA fB n nv na np c ki fa fb bf ch bs sE) {run d T e h : Nat} (hrun : run < 2) (hd : d ≤ 6) (hT : T ≤ 200) (hh : h + 2 < 512) {v : Nat → Int32} (hV : ma_V kd fA fa nv c me run d cP v) {a : Nat} (ha : a < c) (hk45 : kd a = 4 ∨ kd a = 5) (he : dC run = nI e) (heT : e + T ≤ 200) {post : SX → Prop}
    (h0 : T = 0 → post (nI n, nI nv, nI na, nI np, nI (nv + na), nI (nv + na + 3 * np), sl, bo, nI c, pt, iS, fc, rS, nI h, nI d, nI T, od, jo, loB, hiB, ki, fa, fb, bf, ch, bs, ps, pb, pp, wS, wT, sB, tL, ip, me, upd eS run 2, oC, oL, oV, dC, dT, dK, co, cP, cR, sE, eV))
    (h1 : ∀ eV tk, 0 < T → tk = nI (T - 1) → (kd a = 4 → ¬ v (a + 1) = 0 → post (nI n, nI nv, nI na, nI np, nI (nv + na), nI (nv + na + 3 * np), sl, bo, nI c, pt, iS, fc, rS, nI (h + 1), nI d, tk, od, jo, loB, hiB, ki, fa, fb, bf, ch, bs, ps, pb, pp, wS, wT, sB, tL, ip, me, eS, oC, oL, oV, upd dC run (nI (e + 1)), upd dT (run * 200 + e) (nI a), upd dK (run * 200 + e) 1, upd co h (nI (pg_en kd c (a + 1))), cP, cR, sE, eV)) ∧
      (kd a = 4 → v (a + 1) = 0 → post (nI n, nI nv, nI na, nI np, nI (nv + na), nI (nv + na + 3 * np), sl, bo, nI c, pt, iS, fc, rS, nI (h + 1), nI d, tk, od, jo, loB, hiB, ki, fa, fb, bf, ch, bs, ps, pb, pp, wS, wT, sB, tL, ip, me, eS, oC, oL, oV, upd dC run (nI (e + 1)), upd dT (run * 200 + e) (nI a), upd dK (run * 200 + e) 0, upd co h (nI (pg_en kd c (pg_en kd c (a + 1)))), cP, cR, sE, eV)) ∧
      (kd a = 5 → ¬ v (a + 1) = 0 → post (nI n, nI nv, nI na, nI np, nI (nv + na), nI (nv + na + 3 * np), sl, bo, nI c, pt, iS, fc, rS, nI (h + 1 + 1), nI d, tk, od, jo, loB, hiB, ki, fa, fb, bf, ch, bs, ps, pb, pp, wS, wT, sB, tL, ip, me, eS, oC, oL, oV, upd dC run (nI (e + 1)), upd dT (run * 200 + e) (nI a), upd dK (run * 200 + e) 1, upd (upd co h (nI a)) (h + 1) (nI (pg_en kd c (a + 1))), cP, cR, sE, eV)) ∧
      (kd a = 5 → v (a + 1) = 0 → post (nI n, nI nv, nI na, nI np, nI (nv + na), nI (nv + na + 3 * np), sl, bo, nI c, pt, iS, fc, rS, nI h, nI d, tk, od, jo, loB, hiB, ki, fa, fb, bf, ch, bs, ps, pb, pp, wS, wT, sB, tL, ip, me, eS, oC, oL, oV, upd dC run (nI (e + 1)), upd dT (run * 200 + e) (nI a), upd dK (run * 200 + e) 0, co, cP, cR, sE, eV))) :
    wpX_executeTest post (nI n, nI nv, nI na, nI np, nI (nv + na), nI (nv + na + 3 * np), sl, bo, nI c, pt, iS, fc, rS, nI h, nI d, nI T, od, jo, loB, hiB, ki, fa, fb, bf, ch, bs, ps, pb, pp, wS, wT, sB, tL, ip, me, eS, oC, oL, oV, dC, dT, dK, co, cP, cR, sE, eV) (nI run) (nI a) := by
  have H' := H
  obtain ⟨⟨hn, hnv, hna, hnp, hc⟩, C, F, hk, hfa, hfb, hH, hsE⟩ := H
  obtain ⟨a1, a2, a3, a4, a5, a6, a7, a8⟩ := pg_k5 C ha hk45
  have ar2 : 1 < pg_ar (kd a) := by rcases hk45 with w | w <;> rw [w] <;> decide
  obtain ⟨c1, c2⟩ := xi_c0 hH C ha (by omega)
  obtain ⟨c3, c4⟩ := xi_c1 hH C ha ar2
  obtain ⟨k1, k2⟩ := hk a ha
  have ivr : vp_in (nI run) 2 := vp_in_nI hrun (by decide)
  have er : (nI run).toNatClampNeg = run := nI_clamp (by omega)
  refine pk_lt 0 T (fun w => nm_r (bz_s1 w) ?_) (fun w => And.intro ivr ?_) rfl rfl (by omega) (by omega)
  · refine br_f (by decide) ?_
    rw [bz_3, nI_clamp (n := 3 * a) (by omega), c1]
    refine And.intro (vp_in_nI (by omega) (by decide)) ?_
    refine xw_eval H' hrun hd hV a1 a2 (fun eV => ?_) rfl
    obtain ⟨p1, p2, p3, p4⟩ := h1 eV _ w rfl
    have e200 : nI run * 200 + nI e = nI (run * 200 + e) := by rw [show (200 : Int32) = nI 200 from rfl, pk_mul, nI_add]
    have iv4 : vp_in (nI (run * 200 + e)) 400 := vp_in_nI (by omega) (by decide)
    have e4 : (nI (run * 200 + e)).toNatClampNeg = run * 200 + e := nI_clamp (by omega)
    have T32 : ∀ z : Int32, wX_executeTest_89 post (nI a) z (nI n) (nI nv) (nI na) (nI np) (nI (nv + na)) (nI (nv + na + 3 * np)) sl bo (nI c) pt iS fc rS (nI h) (nI d) (nI (T - 1)) od jo loB hiB ki fa fb bf ch bs ps pb pp wS wT sB tL ip me eS oC oL oV (upd dC run (nI (e + 1))) (upd dT (run * 200 + e) (nI a)) (upd dK (run * 200 + e) (vp_nar .boolean z)) co cP cR sE eV → wX_executeTest_32 post (nI run) (nI a) z (nI n) (nI nv) (nI na) (nI np) (nI (nv + na)) (nI (nv + na + 3 * np)) sl bo (nI c) pt iS fc rS (nI h) (nI d) (nI (T - 1)) od jo loB hiB ki fa fb bf ch bs ps pb pp wS wT sB tL ip me eS oC oL oV dC dT dK co cP cR sE eV := by
      intro z w'
      refine And.intro ivr ?_
      rw [er, he]
      refine nm_e (br_f (nI_ge (b := 200) (by omega) (by decide)) ?_)
      rw [e200, e4, nI_1]
      exact And.intro iv4 (nm_e (And.intro iv4 (nm_e (And.intro ivr (nm_e w')))))
    by_cases z : v (a + 1) = 0
    · refine br_t z (T32 0 ?_)
      rw [bz_nar0]
      refine And.intro (vp_in_nI (by omega) (by decide)) ?_
      rw [nI_clamp (n := a) (by omega), k1]
      refine pk_eq (kd a) 4 (fun q => br_t rfl ?_) (fun q => br_t rfl (p4 (by omega) z)) rfl rfl (by omega) (by omega)
      obtain ⟨c5, c6⟩ := xi_c2 hH C ha (by rw [q]; decide)
      rw [bz_3, bz_32, nI_clamp (n := 3 * a + 2) (by omega), c5]
      exact And.intro (vp_in_nI (by omega) (by decide)) (xw_pc (by omega) (p2 q z))
    · refine br_f z (T32 1 ?_)
      rw [bz_nar1]
      refine And.intro (vp_in_nI (by omega) (by decide)) ?_
      rw [nI_clamp (n := a) (by omega), k1, bz_3, bz_31, nI_clamp (n := 3 * a + 1) (by omega), c3]
      refine pk_eq (kd a) 4 (fun q => br_f (by decide) ?_) (fun q => br_f (by decide) ?_) rfl rfl (by omega) (by omega)
      · exact And.intro (vp_in_nI (by omega) (by decide)) (xw_pc (by omega) (p1 q z))
      · refine xw_pc (by omega) ?_
        show vp_in (nI (3 * a + 1)) 192 ∧ _
        rw [c3]
        exact And.intro (vp_in_nI (by omega) (by decide)) (xw_pc (by omega) (p3 (by omega) z))
  · rw [er]
    exact nm_e (br_t rfl (h0 (by omega)))
theorem xw_call (H : mx_H kd fA fB n nv na np c ki fa fb bf ch bs sE) {run d T h : Nat} (hrun : run < 2) (hd : d ≤ 6) (hT : T ≤ 200) (hh : h + 2 < 512) {v : Nat → Int32} (hV : ma_V kd fA fa nv c me run d cP v) {a : Nat} (ha : a < c) (hk6 : kd a = 6) {post : SX → Prop}
    (h0 : T = 0 → post (nI n, nI nv, nI na, nI np, nI (nv + na), nI (nv + na + 3 * np), sl, bo, nI c, pt, iS, fc, rS, nI h, nI d, nI T, od, jo, loB, hiB, ki, fa, fb, bf, ch, bs, ps, pb, pp, wS, wT, sB, tL, ip, me, upd eS run 2, oC, oL, oV, dC, dT, dK, co, cP, cR, sE, eV))
    (h6 : 0 < T → d = 6 → post (nI n, nI nv, nI na, nI np, nI (nv + na), nI (nv + na + 3 * np), sl, bo, nI c, pt, iS, fc, rS, nI h, nI d, nI (T - 1), od, jo, loB, hiB, ki, fa, fb, bf, ch, bs, ps, pb, pp, wS, wT, sB, tL, ip, me, upd eS run 3, oC, oL, oV, dC, dT, dK, co, cP, cR, sE, eV))
    (h1 : ∀ eV, 0 < T → d < 6 → post (nI n, nI nv, nI na, nI np, nI (nv + na), nI (nv + na + 3 * np), sl, bo, nI c, pt, iS, fc, rS, nI (h + 1 + 1), nI (d + 1), nI (T - 1), od, jo, loB, hiB, ki, fa, fb, bf, ch, bs, ps, pb, pp, wS, wT, sB, tL, ip, me, eS, oC, oL, oV, dC, dT, dK, upd (upd co h (-1 - nI a)) (h + 1) (nI (pg_st kd c (fA a))), upd cP d (v (a + 1)), upd cR d 0, sE, eV)) :
    wpX_executeCall post (nI n, nI nv, nI na, nI np, nI (nv + na), nI (nv + na + 3 * np), sl, bo, nI c, pt, iS, fc, rS, nI h, nI d, nI T, od, jo, loB, hiB, ki, fa, fb, bf, ch, bs, ps, pb, pp, wS, wT, sB, tL, ip, me, eS, oC, oL, oV, dC, dT, dK, co, cP, cR, sE, eV) (nI run) (nI a) := by
  have H' := H
  obtain ⟨⟨hn, hnv, hna, hnp, hc⟩, C, F, hk, hfa, hfb, hH, hsE⟩ := H
  obtain ⟨a1, a2, a3⟩ := pg_k1 C ha (by omega)
  obtain ⟨c1, c2⟩ := xi_c0 hH C ha (by rw [hk6]; decide)
  have g := hfa a ha (by omega)
  have fv := ((F a ha).2.2.2.1 hk6).1
  have ivr : vp_in (nI run) 2 := vp_in_nI hrun (by decide)
  have er : (nI run).toNatClampNeg = run := nI_clamp (by omega)
  obtain ⟨r1, r2, r3⟩ := pg_st_lt C.1 C.2.1 (b := fA a) (by omega)
  have gb := hH.2.2 _ r1 r2
  rw [pg_bd_st C.1 (by omega) r1] at gb
  refine pk_lt 0 T (fun w => nm_r (bz_s1 w) ?_) (fun w => And.intro ivr ?_) rfl rfl (by omega) (by omega)
  · refine br_f (by decide) ?_
    refine pk_lt d 6 (fun w6 => ?_) (fun w6 => And.intro ivr ?_) rfl rfl (by omega) (by omega)
    · rw [bz_3, nI_clamp (n := 3 * a) (by omega), c1]
      refine And.intro (vp_in_nI (by omega) (by decide)) ?_
      refine xw_eval H' hrun hd hV a1 a2 (fun eV => ?_) rfl
      have ivd : vp_in (nI d) 6 := vp_in_nI w6 (by decide)
      show vp_in (nI d) 6 ∧ _
      rw [nI_clamp (n := d) (by omega)]
      refine And.intro ivd (nm_e (And.intro ivd (nm_e (nm_r (nI_1 d) ?_))))
      refine xw_pc (by omega) ?_
      show vp_in (nI a) 64 ∧ _
      rw [nI_clamp (n := a) (by omega), g, nI_clamp (n := fA a) (by omega), gb]
      exact And.intro (vp_in_nI (by omega) (by decide)) (And.intro (vp_in_nI (by omega) (by decide)) (xw_pc (by omega) (h1 eV w w6)))
    · rw [er]
      exact nm_e (h6 w (by omega))
  · rw [er]
    exact nm_e (br_t rfl (h0 (by omega)))
theorem xw_out (H : mx_H kd fA fB n nv na np c ki fa fb bf ch bs sE) {run d o : Nat} (hrun : run < 2) (hd : d ≤ 6) (ho : o ≤ 16) {v : Nat → Int32} (hV : ma_V kd fA fa nv c me run d cP v) {a : Nat} (ha : a < c) (hk8 : kd a = 8) (eo : oC run = nI o) {post : SX → Prop}
    (h0 : o = 16 → post (nI n, nI nv, nI na, nI np, nI (nv + na), nI (nv + na + 3 * np), sl, bo, nI c, pt, iS, fc, rS, cT, nI d, tk, od, jo, loB, hiB, ki, fa, fb, bf, ch, bs, ps, pb, pp, wS, wT, sB, tL, ip, me, upd eS run 4, oC, oL, oV, dC, dT, dK, co, cP, cR, sE, eV))
    (h1 : ∀ eV, o < 16 → post (nI n, nI nv, nI na, nI np, nI (nv + na), nI (nv + na + 3 * np), sl, bo, nI c, pt, iS, fc, rS, cT, nI d, tk, od, jo, loB, hiB, ki, fa, fb, bf, ch, bs, ps, pb, pp, wS, wT, sB, tL, ip, me, eS, upd oC run (nI (o + 1)), upd oL (run * 16 + o) (nI (fA a)), upd oV (run * 16 + o) (v (a + 1)), dC, dT, dK, co, cP, cR, sE, eV)) :
    wpX_executeOut post (nI n, nI nv, nI na, nI np, nI (nv + na), nI (nv + na + 3 * np), sl, bo, nI c, pt, iS, fc, rS, cT, nI d, tk, od, jo, loB, hiB, ki, fa, fb, bf, ch, bs, ps, pb, pp, wS, wT, sB, tL, ip, me, eS, oC, oL, oV, dC, dT, dK, co, cP, cR, sE, eV) (nI run) (nI a) := by
  have H' := H
  obtain ⟨⟨hn, hnv, hna, hnp, hc⟩, C, F, hk, hfa, hfb, hH, hsE⟩ := H
  obtain ⟨a1, a2, a3⟩ := pg_k1 C ha (by omega)
  obtain ⟨c1, c2⟩ := xi_c0 hH C ha (by rw [hk8]; decide)
  have g := hfa a ha (by omega)
  have ivr : vp_in (nI run) 2 := vp_in_nI hrun (by decide)
  have er : (nI run).toNatClampNeg = run := nI_clamp (by omega)
  have e16 : nI run * 16 + nI o = nI (run * 16 + o) := by rw [show (16 : Int32) = nI 16 from rfl, pk_mul, nI_add]
  refine And.intro ivr ?_
  rw [er, eo]
  refine nm_e (pk_lt o 16 (fun w => ?_) (fun w => And.intro ivr (nm_e (h0 (by omega)))) rfl rfl (by omega) (by omega))
  have iv1 : vp_in (nI (run * 16 + o)) 32 := vp_in_nI (by omega) (by decide)
  rw [e16, nI_clamp (n := run * 16 + o) (by omega), nI_clamp (n := a) (by omega), g, bz_3, nI_clamp (n := 3 * a) (by omega), c1, nI_1]
  refine And.intro (vp_in_nI (by omega) (by decide)) (And.intro iv1 (nm_e (And.intro (vp_in_nI (by omega) (by decide)) ?_)))
  refine xw_eval H' hrun hd hV a1 a2 (fun eV => ?_) rfl
  exact And.intro iv1 (nm_e (And.intro ivr (nm_e (h1 eV w))))
theorem xw_fin (H : mx_H kd fA fB n nv na np c ki fa fb bf ch bs sE) {run d : Nat} (hrun : run < 2) (hd : d < 6) {a : Nat} (ha : a < c) (hk6 : kd a = 6) {post : SX → Prop} (hp : post (nI n, nI nv, nI na, nI np, nI (nv + na), nI (nv + na + 3 * np), sl, bo, nI c, pt, iS, fc, rS, cT, nI d, tk, od, jo, loB, hiB, ki, fa, fb, bf, ch, bs, ps, pb, pp, wS, wT, sB, tL, ip, upd me (run * 48 + fB a * 4) (cR d), eS, oC, oL, oV, dC, dT, dK, co, cP, cR, sE, eV)) : wpX_finishCall post (nI n, nI nv, nI na, nI np, nI (nv + na), nI (nv + na + 3 * np), sl, bo, nI c, pt, iS, fc, rS, cT, nI (d + 1), tk, od, jo, loB, hiB, ki, fa, fb, bf, ch, bs, ps, pb, pp, wS, wT, sB, tL, ip, me, eS, oC, oL, oV, dC, dT, dK, co, cP, cR, sE, eV) (nI run) (-1 - (-1 - nI a)) := by
  obtain ⟨⟨hn, hnv, hna, hnp, hc⟩, C, F, hk, hfa, hfb, hH, hsE⟩ := H
  have fv := ((F a ha).2.2.2.1 hk6).2
  have g := hfb a ha
  rw [show (-1 : Int32) - (-1 - nI a) = nI a by grind]
  refine br_f (nI_nle (by omega) (by omega)) (nm_r (nI_pred d) ?_)
  rw [nI_clamp (n := a) (by omega), g, bz_484, nI_clamp (n := d) (by omega), nI_clamp (n := run * 48 + fB a * 4) (by omega)]
  exact And.intro (vp_in_nI (by omega) (by decide)) (And.intro (vp_in_nI (by omega) (by decide)) (And.intro (vp_in_nI (by omega) (by decide)) (nm_e hp)))
end
end
section
/-! one step of the reference's machine -/
theorem bz_f0 : fits .boolean (.int 0) = true := by rfl
theorem bz_f1 : fits .boolean (.int 1) = true := by rfl
section
variable {n nv na np c : Nat} {sl iS rS yC yF bo yD yA yT : Int32} {od yB yL yE ki fa fb yV eS oC dC yK cP cR oL oV dT dK : Nat → Int32}
variable {kd fA fB : Nat → Nat} {me ip : Nat → Int32}
theorem yw_lv_rt (H : my_H kd fA fB n nv na np c ki fa fb) {a run : Nat} (ha : a < c) (hr : pg_rt kd np a) {post : SY → Prop} (hrun : run < 2)
    (h0 : yD = 0 → post (nI n, nI nv, nI na, nI np, nI (nv + na), nI (nv + na + 3 * np), sl, iS, rS, yC, yF, bo, nI c, yD, nI a, yT, od, yB, yL, yE, ki, fa, fb, yV, upd eS run 1, oC, dC, yK, cP, cR, oL, oV, dT, dK)) (h1 : ¬ yD = 0 → wY_leave_30 post (nI run) (-1) (nI n) (nI nv) (nI na) (nI np) (nI (nv + na)) (nI (nv + na + 3 * np)) sl iS rS yC yF bo (nI c) yD (nI a) yT od yB yL yE ki fa fb yV eS oC dC yK cP cR oL oV dT dK) : wpY_leave post (nI n, nI nv, nI na, nI np, nI (nv + na), nI (nv + na + 3 * np), sl, iS, rS, yC, yF, bo, nI c, yD, nI a, yT, od, yB, yL, yE, ki, fa, fb, yV, eS, oC, dC, yK, cP, cR, oL, oV, dT, dK) (nI run) := by
  obtain ⟨⟨hn, hnv, hna, hnp, hc⟩, C, F, hk, hfa, hfb⟩ := H
  refine yw_parent hk hc (i := a) (by omega) ?_ rfl
  rw [pg_par_rt C.1 (Nat.le_of_lt ha) hr, bz_m0]
  refine br_f (by decide) (br_c (fun w => And.intro (vp_in_nI hrun (by decide)) ?_) h1)
  rw [nI_clamp (n := run) (by omega)]
  exact nm_e (h0 w)
theorem yw_lv_ret (H : my_H kd fA fB n nv na np c ki fa fb) {a b d run : Nat} (ha : a < c) (hr : pg_rt kd np a) (hrun : run < 2) (hd : d < 6) (hb : b < c) (hkb : kd b = 6) (eb : yK d = nI b) {post : SY → Prop}
    (hp : post (nI n, nI nv, nI na, nI np, nI (nv + na), nI (nv + na + 3 * np), sl, iS, rS, yC, yF, bo, nI c, nI d, nI b, yT, od, yB, yL, gl 96 ip (upd me (run * 48 + fB b * 4) (cR d)), ki, fa, fb, yV, eS, oC, dC, yK, cP, cR, oL, oV, dT, dK)) : wpY_leave post (nI n, nI nv, nI na, nI np, nI (nv + na), nI (nv + na + 3 * np), sl, iS, rS, yC, yF, bo, nI c, nI (d + 1), nI a, yT, od, yB, yL, gl 96 ip me, ki, fa, fb, yV, eS, oC, dC, yK, cP, cR, oL, oV, dT, dK) (nI run) := by
  refine yw_lv_rt H ha hr hrun (fun w => absurd w (nI_ne0 (by omega) (by omega))) (fun _ => ?_)
  obtain ⟨⟨hn, hnv, hna, hnp, hc⟩, C, F, hk, hfa, hfb⟩ := H
  have fv := ((F b hb).2.2.2.1 hkb).2
  refine br_f (by decide) (nm_r (nI_pred d) (And.intro (vp_in_nI hd (by decide)) ?_))
  rw [nI_clamp (n := d) (by omega), eb]
  refine nm_e (And.intro (vp_in_nI (by omega) (by decide)) ?_)
  rw [nI_clamp (n := b) (by omega), hfb b hb]
  refine yw_idx (a := 1) (b := run) (s := fB b) (q := 0) ?_ rfl rfl rfl rfl
  rw [show 1 * 96 + run * 48 + fB b * 4 + 0 = 96 + (run * 48 + fB b * 4) by omega, nI_clamp (n := 96 + (run * 48 + fB b * 4)) (by omega), gl_uhi]
  exact And.intro (vp_in_nI hd (by decide)) (And.intro (vp_in_nI (by omega) (by decide)) (nm_e hp))
theorem yw_lv_ch (H : my_H kd fA fB n nv na np c ki fa fb) {a q m run : Nat} (ha : a < c) (hch : pg_ch kd np q m a) {post : SY → Prop}
    (h1 : kd q = 3 → a = q + 1 → post (nI n, nI nv, nI na, nI np, nI (nv + na), nI (nv + na + 3 * np), sl, iS, rS, yC, 0, bo, nI c, yD, nI (pg_en kd c a), yT, od, yB, yL, yE, ki, fa, fb, yV, eS, oC, dC, yK, cP, cR, oL, oV, dT, dK)) (h2 : kd q = 3 → a ≠ q + 1 → post (nI n, nI nv, nI na, nI np, nI (nv + na), nI (nv + na + 3 * np), sl, iS, rS, yC, 1, bo, nI c, yD, nI q, yT, od, yB, yL, yE, ki, fa, fb, yV, eS, oC, dC, yK, cP, cR, oL, oV, dT, dK)) (h5 : kd q = 5 → post (nI n, nI nv, nI na, nI np, nI (nv + na), nI (nv + na + 3 * np), sl, iS, rS, yC, 0, bo, nI c, yD, nI q, yT, od, yB, yL, yE, ki, fa, fb, yV, eS, oC, dC, yK, cP, cR, oL, oV, dT, dK)) (h4 : ¬ kd q = 3 → ¬ kd q = 5 → post (nI n, nI nv, nI na, nI np, nI (nv + na), nI (nv + na + 3 * np), sl, iS, rS, yC, 1, bo, nI c, yD, nI q, yT, od, yB, yL, yE, ki, fa, fb, yV, eS, oC, dC, yK, cP, cR, oL, oV, dT, dK)) : wpY_leave post (nI n, nI nv, nI na, nI np, nI (nv + na), nI (nv + na + 3 * np), sl, iS, rS, yC, yF, bo, nI c, yD, nI a, yT, od, yB, yL, yE, ki, fa, fb, yV, eS, oC, dC, yK, cP, cR, oL, oV, dT, dK) (nI run) := by
  obtain ⟨⟨hn, hnv, hna, hnp, hc⟩, C, F, hk, hfa, hfb⟩ := H
  have hq := hch.1
  obtain ⟨k1, k2⟩ := hk q (by omega)
  have iv : vp_in (nI q) 64 := vp_in_nI (by omega) (by decide)
  have eq' : (nI q).toNatClampNeg = q := nI_clamp (by omega)
  refine yw_parent hk hc (i := a) (by omega) ?_ rfl
  rw [pg_par_ch C.1 (Nat.le_of_lt ha) hch, pk_m1]
  refine br_t (nI_pos' (by omega)) (br_t (nI_pos' (by omega)) (And.intro iv ?_))
  rw [eq', k1, nI_1]
  have L114 : (¬ (kd q = 3 ∧ a = q + 1)) → wY_leave_114 post (nI q) (nI n) (nI nv) (nI na) (nI np) (nI (nv + na)) (nI (nv + na + 3 * np)) sl iS rS yC yF bo (nI c) yD (nI a) yT od yB yL yE ki fa fb yV eS oC dC yK cP cR oL oV dT dK := by
    intro w
    refine And.intro iv ?_
    rw [eq', k1]
    refine pk_eq (kd q) 5 (fun e => ?_) (fun e => br_t rfl ?_) rfl rfl (by omega) (by omega)
    · exact And.intro bz_n0 (And.intro bz_f0 (br_t rfl (h5 e)))
    · refine And.intro bz_n1 (And.intro bz_f1 (br_t rfl ?_))
      by_cases e3 : kd q = 3
      · exact h2 e3 (fun z => w ⟨e3, z⟩)
      · exact h4 e3 e
  refine pk_eq (kd q) 3 (fun e3 => ?_) (fun e3 => L114 (fun z => e3 z.1)) rfl rfl (by omega) (by omega)
  refine pk_eq a (q + 1) (fun e => ?_) (fun e => L114 (fun z => e z.2)) rfl rfl (by omega) (by omega)
  refine And.intro iv ?_
  rw [eq', k1]
  refine br_f (by rw [e3]; decide) (br_f (by decide) ?_)
  refine And.intro bz_n0 (And.intro bz_f0 (br_f (by decide) ?_))
  exact yw_end hk hc (i := a) (by omega) (h1 e3 e) rfl
theorem yw_en0 (H : my_H kd fA fB n nv na np c ki fa fb) {a run d e : Nat} (ha : a < c) (hk0 : kd a = 0 ∨ kd a = 3) (hrun : run < 2) (he : dC run = nI e) (hes : eS run = 0) {post : SY → Prop} (h0 : kd a = 0 → post (nI n, nI nv, nI na, nI np, nI (nv + na), nI (nv + na + 3 * np), sl, iS, rS, yC, 1, bo, nI c, yD, nI a, yT, od, yB, yL, yE, ki, fa, fb, yV, eS, oC, dC, yK, cP, cR, oL, oV, dT, dK)) (h3 : kd a = 3 → post (nI n, nI nv, nI na, nI np, nI (nv + na), nI (nv + na + 3 * np), sl, iS, rS, yC, 0, bo, nI c, yD, nI (a + 1), yT, od, yB, yL, yE, ki, fa, fb, yV, eS, oC, dC, yK, cP, cR, oL, oV, dT, dK)) : wpY_enter post (nI n, nI nv, nI na, nI np, nI (nv + na), nI (nv + na + 3 * np), sl, iS, rS, yC, yF, bo, nI c, yD, nI a, yT, od, yB, yL, yE, ki, fa, fb, yV, eS, oC, dC, yK, cP, cR, oL, oV, dT, dK) (nI run) := by
  obtain ⟨⟨hn, hnv, hna, hnp, hc⟩, C, F, hk, hfa, hfb⟩ := H
  obtain ⟨k1, k2⟩ := hk a ha
  have ivr : vp_in (nI run) 2 := vp_in_nI hrun (by decide)
  have er : (nI run).toNatClampNeg = run := nI_clamp (by omega)
  refine And.intro (vp_in_nI (by omega) (by decide)) ?_
  rw [nI_clamp (n := a) (by omega), k1]
  refine nm_e ?_
  have B : wY_enter_34 post (nI run) (nI (kd a)) 0 (nI n) (nI nv) (nI na) (nI np) (nI (nv + na)) (nI (nv + na + 3 * np)) sl iS rS yC yF bo (nI c) yD (nI a) yT od yB yL yE ki fa fb yV eS oC dC yK cP cR oL oV dT dK := by
    refine yw_end hk hc (i := a + 1) (by omega) ?_ (nI_1 a)
    refine And.intro ivr (nm_e ?_)
    rcases hk0 with z | z
    · rw [z]
      repeat (first | refine br_t (by decide) ?_ | refine br_f (by decide) ?_)
      refine And.intro ivr ?_
      rw [er, hes]
      repeat (first | refine br_t (by decide) ?_ | refine br_f (by decide) ?_)
      refine And.intro bz_n1 (And.intro bz_f1 ?_)
      repeat (first | refine br_t (by decide) ?_ | refine br_f (by decide) ?_)
      exact h0 z
    · rw [z]
      repeat (first | refine br_t (by decide) ?_ | refine br_f (by decide) ?_)
      refine And.intro ivr ?_
      rw [er, hes]
      repeat (first | refine br_t (by decide) ?_ | refine br_f (by decide) ?_)
      refine And.intro bz_n0 (And.intro bz_f0 ?_)
      repeat (first | refine br_t (by decide) ?_ | refine br_f (by decide) ?_)
      exact nm_r (nI_1 a) (h3 z)
  rcases hk0 with z | z
  · exact br_t (by rw [z]; rfl) B
  · exact br_f (by rw [z]; decide) (br_t (by rw [z]; rfl) B)
end
end
section
/-! the reference's enter, by kinds -/
section
variable {n nv na np c : Nat} {sl iS rS yC yF bo yD yA yT : Int32} {od yB yL yE ki fa fb yV eS oC dC yK cP cR oL oV dT dK : Nat → Int32}
variable {kd fA fB : Nat → Nat} {me ip : Nat → Int32}
/-- the way to the value of the first child -/
theorem yw_en34 (H : my_H kd fA fB n nv na np c ki fa fb) {a run d e : Nat} (ha : a < c) (hk0 : ¬ kd a = 0) (hk3 : ¬ kd a = 3) (h8 : kd a ≤ 8) (hrun : run < 2) (hd : d ≤ 6) {v : Nat → Int32} (hV : ma_V kd fA fa nv c me run d cP v) (he : dC run = nI e) {post : SY → Prop}
    (h45 : ∀ yV, kd a = 4 ∨ kd a = 5 → wY_enter_89 post (nI run) (nI (kd a)) (v (a + 1)) (nI (pg_en kd c (a + 1))) (nI (run * 200 + e)) 1 (nI n) (nI nv) (nI na) (nI np) (nI (nv + na)) (nI (nv + na + 3 * np)) sl iS rS yC yF bo (nI c) (nI d) (nI a) yT od yB yL (gl 96 ip me) ki fa fb yV eS oC dC yK cP cR oL oV dT dK)
    (h6 : ∀ yV, kd a = 6 → wY_enter_89 post (nI run) (nI (kd a)) (v (a + 1)) (nI (pg_en kd c (a + 1))) (nI (run * 200 + e)) 0 (nI n) (nI nv) (nI na) (nI np) (nI (nv + na)) (nI (nv + na + 3 * np)) sl iS rS yC yF bo (nI c) (nI d) (nI a) yT od yB yL (gl 96 ip me) ki fa fb yV eS oC dC yK cP cR oL oV dT dK)
    (ho : ∀ yV, ¬ (kd a = 4 ∨ kd a = 5) → ¬ kd a = 6 → wY_enter_131 post (nI run) (nI (kd a)) (v (a + 1)) (nI (pg_en kd c (a + 1))) (nI (run * 200 + e)) 0 (nI n) (nI nv) (nI na) (nI np) (nI (nv + na)) (nI (nv + na + 3 * np)) sl iS rS yC yF bo (nI c) (nI d) (nI a) yT od yB yL (gl 96 ip me) ki fa fb yV eS oC dC yK cP cR oL oV dT dK) :
    wpY_enter post (nI n, nI nv, nI na, nI np, nI (nv + na), nI (nv + na + 3 * np), sl, iS, rS, yC, yF, bo, nI c, nI d, nI a, yT, od, yB, yL, gl 96 ip me, ki, fa, fb, yV, eS, oC, dC, yK, cP, cR, oL, oV, dT, dK) (nI run) := by
  have H' := H
  obtain ⟨⟨hn, hnv, hna, hnp, hc⟩, C, F, hk, hfa, hfb⟩ := H
  obtain ⟨k1, k2⟩ := hk a ha
  have ivr : vp_in (nI run) 2 := vp_in_nI hrun (by decide)
  have er : (nI run).toNatClampNeg = run := nI_clamp (by omega)
  have ar : 0 < pg_ar (kd a) := by
    have : kd a = 1 ∨ kd a = 2 ∨ kd a = 4 ∨ kd a = 5 ∨ kd a = 6 ∨ kd a = 7 ∨ kd a = 8 := by omega
    rcases this with w | w | w | w | w | w | w <;> rw [w] <;> decide
  obtain ⟨d1, d2⟩ := pg_c0 C.1 C.2.1 ha ar
  have d3 : 9 ≤ kd (a + 1) := by
    have := (C.2.2 _ d1).1 _ _ d2
    unfold pg_sc at this
    omega
  refine And.intro (vp_in_nI (by omega) (by decide)) ?_
  rw [nI_clamp (n := a) (by omega), k1]
  refine nm_e (br_f (nI_ne0 (by omega) (by omega)) (br_f (fun w => hk3 ((nI_eq (b := 3) (by omega) (by decide)).mp w)) ?_))
  refine yw_eval H' hrun hd rfl hV d1 d3 (fun yV => ?_) (nI_1 a)
  refine yw_end hk hc (i := a + 1) (by omega) ?_ (nI_1 a)
  refine And.intro ivr ?_
  rw [er, he, show (200 : Int32) = nI 200 from rfl, pk_mul, nI_add]
  refine nm_e ?_
  refine pk_eq (kd a) 4 (fun w => br_f (by decide) (h45 yV (Or.inl w))) (fun w4 => ?_) rfl rfl (by omega) (by omega)
  refine pk_eq (kd a) 5 (fun w => br_f (by decide) (h45 yV (Or.inr w))) (fun w5 => br_t rfl ?_) rfl rfl (by omega) (by omega)
  refine pk_eq (kd a) 6 (fun w => h6 yV w) (fun w6 => ?_) rfl rfl (by omega) (by omega)
  exact br_f (fun w => w6 ((nI_eq (b := 6) (by omega) (by decide)).mp w)) (ho yV (by omega) w6)
theorem yw_en1 (H : my_H kd fA fB n nv na np c ki fa fb) {a run d e : Nat} (ha : a < c) (hk1 : kd a = 1) (hrun : run < 2) (hd : d ≤ 6) {v : Nat → Int32} (hV : ma_V kd fA fa nv c me run d cP v) (he : dC run = nI e) (hes : eS run = 0) {post : SY → Prop} (hp : ∀ yV, post (nI n, nI nv, nI na, nI np, nI (nv + na), nI (nv + na + 3 * np), sl, iS, rS, yC, 1, bo, nI c, nI d, nI a, yT, od, yB, yL, gl 96 ip (upd me (run * 48 + fA a * 4) (v (a + 1))), ki, fa, fb, yV, eS, oC, dC, yK, cP, cR, oL, oV, dT, dK)) : wpY_enter post (nI n, nI nv, nI na, nI np, nI (nv + na), nI (nv + na + 3 * np), sl, iS, rS, yC, yF, bo, nI c, nI d, nI a, yT, od, yB, yL, gl 96 ip me, ki, fa, fb, yV, eS, oC, dC, yK, cP, cR, oL, oV, dT, dK) (nI run) := by
  have ivr : vp_in (nI run) 2 := vp_in_nI hrun (by decide)
  have er : (nI run).toNatClampNeg = run := nI_clamp (by omega)
  refine yw_en34 H ha (by omega) (by omega) (by omega) hrun hd hV he (fun _ w => by omega) (fun _ w => by omega) (fun yV _ _ => ?_)
  obtain ⟨⟨hn, hnv, hna, hnp, hc⟩, C, F, hk, hfa, hfb⟩ := H
  have g := hfa a ha (by omega)
  have fv := (F a ha).2.1 (Or.inl hk1)
  rw [hk1]
  repeat (first | refine br_t (by decide) ?_ | refine br_f (by decide) ?_)
  refine And.intro ivr ?_
  rw [er, hes]
  repeat (first | refine br_t (by decide) ?_ | refine br_f (by decide) ?_)
  refine And.intro bz_n1 (And.intro bz_f1 ?_)
  repeat (first | refine br_t (by decide) ?_ | refine br_f (by decide) ?_)
  refine And.intro (vp_in_nI (by omega) (by decide)) ?_
  rw [nI_clamp (n := a) (by omega), g]
  refine yw_idx (a := 1) (b := run) (s := fA a) (q := 0) ?_ rfl rfl rfl rfl
  rw [show 1 * 96 + run * 48 + fA a * 4 + 0 = 96 + (run * 48 + fA a * 4) by omega, nI_clamp (n := 96 + (run * 48 + fA a * 4)) (by omega), gl_uhi]
  refine And.intro (vp_in_nI (by omega) (by decide)) (nm_e ?_)
  repeat (first | refine br_t (by decide) ?_ | refine br_f (by decide) ?_)
  exact hp yV
theorem yw_en2 (H : my_H kd fA fB n nv na np c ki fa fb) {a run d e : Nat} (ha : a < c) (hk2 : kd a = 2) (hrun : run < 2) (hd : d ≤ 6) {v : Nat → Int32} (hV : ma_V kd fA fa nv c me run d cP v) (he : dC run = nI e) (hes : eS run = 0) {post : SY → Prop} (hp : ∀ yV, post (nI n, nI nv, nI na, nI np, nI (nv + na), nI (nv + na + 3 * np), sl, iS, rS, yC, 1, bo, nI c, nI d, nI a, yT, od, yB, yL, gl 96 ip (ma_st me (run * 48 + (nv + fA a) * 4) (v (a + 1)) (v (pg_en kd c (a + 1)))), ki, fa, fb, yV, eS, oC, dC, yK, cP, cR, oL, oV, dT, dK)) : wpY_enter post (nI n, nI nv, nI na, nI np, nI (nv + na), nI (nv + na + 3 * np), sl, iS, rS, yC, yF, bo, nI c, nI d, nI a, yT, od, yB, yL, gl 96 ip me, ki, fa, fb, yV, eS, oC, dC, yK, cP, cR, oL, oV, dT, dK) (nI run) := by
  have ivr : vp_in (nI run) 2 := vp_in_nI hrun (by decide)
  have er : (nI run).toNatClampNeg = run := nI_clamp (by omega)
  refine yw_en34 H ha (by omega) (by omega) (by omega) hrun hd hV he (fun _ w => by omega) (fun _ w => by omega) (fun yV _ _ => ?_)
  have H' := H
  obtain ⟨⟨hn, hnv, hna, hnp, hc⟩, C, F, hk, hfa, hfb⟩ := H
  obtain ⟨a1, a2, a3, a4, a5, a6⟩ := pg_k2 C ha (Or.inl hk2)
  have g := hfa a ha (by omega)
  have fv := (F a ha).2.2.1 (Or.inl hk2)
  unfold ma_st at hp
  rw [hk2]
  repeat (first | refine br_t (by decide) ?_ | refine br_f (by decide) ?_)
  refine And.intro ivr ?_
  rw [er, hes]
  repeat (first | refine br_t (by decide) ?_ | refine br_f (by decide) ?_)
  refine And.intro bz_n1 (And.intro bz_f1 ?_)
  repeat (first | refine br_t (by decide) ?_ | refine br_f (by decide) ?_)
  refine yw_eval H' hrun hd rfl hV a4 a5 (fun yV => ?_) rfl
  refine yw_in (v (a + 1)) (k := 4) (by decide) (fun j hj ej => br_f (by decide) ?_) (fun w => br_t rfl ?_) rfl
  · show vp_in (nI a) 64 ∧ _
    rw [nI_clamp (n := a) (by omega), g, nI_add]
    refine And.intro (vp_in_nI (by omega) (by decide)) ?_
    refine yw_idx (a := 1) (b := run) (s := nv + fA a) (q := j) ?_ rfl rfl rfl ej
    rw [show 1 * 96 + run * 48 + (nv + fA a) * 4 + j = 96 + (run * 48 + (nv + fA a) * 4 + j) by omega, nI_clamp (n := 96 + (run * 48 + (nv + fA a) * 4 + j)) (by omega), gl_uhi]
    refine And.intro (vp_in_nI (by omega) (by decide)) (nm_e ?_)
    have := hp yV
    rw [if_pos ⟨by rw [ej]; exact nI_pos' (by omega), by rw [ej]; exact nI_lt (b := 4) hj (by decide)⟩, show (v (a + 1)).toNatClampNeg = j from by rw [ej]; exact nI_clamp (by omega)] at this
    repeat (first | refine br_t (by decide) ?_ | refine br_f (by decide) ?_)
    exact this
  · have := hp yV
    rw [if_neg (fun q => by rcases w with w | w; exact Int32.not_lt.mpr q.1 w; exact Int32.not_lt.mpr w.2 q.2)] at this
    repeat (first | refine br_t (by decide) ?_ | refine br_f (by decide) ?_)
    exact this
theorem yw_en7 (H : my_H kd fA fB n nv na np c ki fa fb) {a run d e : Nat} (ha : a < c) (hk7 : kd a = 7) (hrun : run < 2) (hd : d ≤ 6) {v : Nat → Int32} (hV : ma_V kd fA fa nv c me run d cP v) (he : dC run = nI e) (hes : eS run = 0) {post : SY → Prop} (hp0 : ∀ yV, d = 0 → post (nI n, nI nv, nI na, nI np, nI (nv + na), nI (nv + na + 3 * np), sl, iS, rS, yC, 1, bo, nI c, nI d, nI a, yT, od, yB, yL, gl 96 ip me, ki, fa, fb, yV, eS, oC, dC, yK, cP, cR, oL, oV, dT, dK)) (hp : ∀ yV, 0 < d → post (nI n, nI nv, nI na, nI np, nI (nv + na), nI (nv + na + 3 * np), sl, iS, rS, yC, 1, bo, nI c, nI d, nI a, yT, od, yB, yL, gl 96 ip me, ki, fa, fb, yV, eS, oC, dC, yK, cP, upd cR (d - 1) (v (a + 1)), oL, oV, dT, dK)) : wpY_enter post (nI n, nI nv, nI na, nI np, nI (nv + na), nI (nv + na + 3 * np), sl, iS, rS, yC, yF, bo, nI c, nI d, nI a, yT, od, yB, yL, gl 96 ip me, ki, fa, fb, yV, eS, oC, dC, yK, cP, cR, oL, oV, dT, dK) (nI run) := by
  have ivr : vp_in (nI run) 2 := vp_in_nI hrun (by decide)
  have er : (nI run).toNatClampNeg = run := nI_clamp (by omega)
  refine yw_en34 H ha (by omega) (by omega) (by omega) hrun hd hV he (fun _ w => by omega) (fun _ w => by omega) (fun yV _ _ => ?_)
  rw [hk7]
  repeat (first | refine br_t (by decide) ?_ | refine br_f (by decide) ?_)
  refine And.intro ivr ?_
  rw [er, hes]
  repeat (first | refine br_t (by decide) ?_ | refine br_f (by decide) ?_)
  refine And.intro bz_n1 (And.intro bz_f1 ?_)
  repeat (first | refine br_t (by decide) ?_ | refine br_f (by decide) ?_)
  refine pk_le d 0 (fun w => ?_) (fun w => ?_) rfl rfl (by omega) (by omega)
  · repeat (first | refine br_t (by decide) ?_ | refine br_f (by decide) ?_)
    exact hp0 yV (by omega)
  · rw [bz_s1 (by omega), nI_clamp (n := d - 1) (by omega)]
    refine And.intro (vp_in_nI (by omega) (by decide)) (nm_e ?_)
    repeat (first | refine br_t (by decide) ?_ | refine br_f (by decide) ?_)
    exact hp yV w
theorem yw_en8 (H : my_H kd fA fB n nv na np c ki fa fb) {a run d e o : Nat} (ha : a < c) (hk8 : kd a = 8) (hrun : run < 2) (hd : d ≤ 6) (ho : o ≤ 16) {v : Nat → Int32} (hV : ma_V kd fA fa nv c me run d cP v) (he : dC run = nI e) (eo : oC run = nI o) (hes : eS run = 0) {post : SY → Prop} (hp0 : ∀ yV, o = 16 → post (nI n, nI nv, nI na, nI np, nI (nv + na), nI (nv + na + 3 * np), sl, iS, rS, yC, yF, bo, nI c, nI d, nI a, yT, od, yB, yL, gl 96 ip me, ki, fa, fb, yV, upd eS run 4, oC, dC, yK, cP, cR, oL, oV, dT, dK))
    (hp : ∀ yV, o < 16 → post (nI n, nI nv, nI na, nI np, nI (nv + na), nI (nv + na + 3 * np), sl, iS, rS, yC, 1, bo, nI c, nI d, nI a, yT, od, yB, yL, gl 96 ip me, ki, fa, fb, yV, eS, upd oC run (nI (o + 1)), dC, yK, cP, cR, upd oL (run * 16 + o) (nI (fA a)), upd oV (run * 16 + o) (v (a + 1)), dT, dK)) : wpY_enter post (nI n, nI nv, nI na, nI np, nI (nv + na), nI (nv + na + 3 * np), sl, iS, rS, yC, yF, bo, nI c, nI d, nI a, yT, od, yB, yL, gl 96 ip me, ki, fa, fb, yV, eS, oC, dC, yK, cP, cR, oL, oV, dT, dK) (nI run) := by
  have ivr : vp_in (nI run) 2 := vp_in_nI hrun (by decide)
  have er : (nI run).toNatClampNeg = run := nI_clamp (by omega)
  refine yw_en34 H ha (by omega) (by omega) (by omega) hrun hd hV he (fun _ w => by omega) (fun _ w => by omega) (fun yV _ _ => ?_)
  obtain ⟨⟨hn, hnv, hna, hnp, hc⟩, C, F, hk, hfa, hfb⟩ := H
  have g := hfa a ha (by omega)
  have e16 : nI run * 16 + nI o = nI (run * 16 + o) := by rw [show (16 : Int32) = nI 16 from rfl, pk_mul, nI_add]
  rw [hk8]
  repeat (first | refine br_t (by decide) ?_ | refine br_f (by decide) ?_)
  refine And.intro ivr ?_
  rw [er, eo]
  refine pk_eq o 16 (fun w => ?_) (fun w => ?_) rfl rfl (by omega) (by omega)
  · refine And.intro ivr (nm_e (And.intro ivr ?_))
    rw [er, pk_us]
    exact br_f (by decide) (hp0 yV w)
  · refine And.intro ivr ?_
    rw [er, hes]
    repeat (first | refine br_t (by decide) ?_ | refine br_f (by decide) ?_)
    refine And.intro bz_n1 (And.intro bz_f1 ?_)
    repeat (first | refine br_t (by decide) ?_ | refine br_f (by decide) ?_)
    have iv1 : vp_in (nI (run * 16 + o)) 32 := vp_in_nI (by omega) (by decide)
    rw [er, eo, e16, nI_clamp (n := run * 16 + o) (by omega), nI_clamp (n := a) (by omega), g, nI_1]
    refine And.intro ivr (And.intro (vp_in_nI (by omega) (by decide)) (And.intro iv1 (nm_e (And.intro ivr (And.intro iv1 (nm_e (And.intro ivr (And.intro ivr (nm_e ?_)))))))))
    repeat (first | refine br_t (by decide) ?_ | refine br_f (by decide) ?_)
    exact hp yV (by omega)
end
end
section
/-! the reference's enter: tests and calls -/
section
variable {n nv na np c : Nat} {sl iS rS yC yF bo yD yA yT : Int32} {od yB yL yE ki fa fb yV eS oC dC yK cP cR oL oV dT dK : Nat → Int32}
variable {kd fA fB : Nat → Nat} {me ip : Nat → Int32}
theorem yw_en45 (H : my_H kd fA fB n nv na np c ki fa fb) {a run d e T : Nat} (ha : a < c) (hk45 : kd a = 4 ∨ kd a = 5) (hrun : run < 2) (hd : d ≤ 6) (hT : T ≤ 200) {v : Nat → Int32} (hV : ma_V kd fA fa nv c me run d cP v) (he : dC run = nI e) (heT : e + T ≤ 200) (hes : eS run = 0) {post : SY → Prop}
    (h0 : ∀ yV, T = 0 → post (nI n, nI nv, nI na, nI np, nI (nv + na), nI (nv + na + 3 * np), sl, iS, rS, yC, yF, bo, nI c, nI d, nI a, nI T, od, yB, yL, gl 96 ip me, ki, fa, fb, yV, upd eS run 2, oC, dC, yK, cP, cR, oL, oV, dT, dK))
    (h1 : ∀ yV, 0 < T → (kd a = 4 → ¬ v (a + 1) = 0 → post (nI n, nI nv, nI na, nI np, nI (nv + na), nI (nv + na + 3 * np), sl, iS, rS, yC, 0, bo, nI c, nI d, nI (pg_en kd c (a + 1)), nI (T - 1), od, yB, yL, gl 96 ip me, ki, fa, fb, yV, eS, oC, upd dC run (nI (e + 1)), yK, cP, cR, oL, oV, upd dT (run * 200 + e) (nI a), upd dK (run * 200 + e) 1)) ∧
      (kd a = 4 → v (a + 1) = 0 → post (nI n, nI nv, nI na, nI np, nI (nv + na), nI (nv + na + 3 * np), sl, iS, rS, yC, 0, bo, nI c, nI d, nI (pg_en kd c (pg_en kd c (a + 1))), nI (T - 1), od, yB, yL, gl 96 ip me, ki, fa, fb, yV, eS, oC, upd dC run (nI (e + 1)), yK, cP, cR, oL, oV, upd dT (run * 200 + e) (nI a), upd dK (run * 200 + e) 0)) ∧
      (kd a = 5 → ¬ v (a + 1) = 0 → post (nI n, nI nv, nI na, nI np, nI (nv + na), nI (nv + na + 3 * np), sl, iS, rS, yC, 0, bo, nI c, nI d, nI (pg_en kd c (a + 1)), nI (T - 1), od, yB, yL, gl 96 ip me, ki, fa, fb, yV, eS, oC, upd dC run (nI (e + 1)), yK, cP, cR, oL, oV, upd dT (run * 200 + e) (nI a), upd dK (run * 200 + e) 1)) ∧
      (kd a = 5 → v (a + 1) = 0 → post (nI n, nI nv, nI na, nI np, nI (nv + na), nI (nv + na + 3 * np), sl, iS, rS, yC, 1, bo, nI c, nI d, nI a, nI (T - 1), od, yB, yL, gl 96 ip me, ki, fa, fb, yV, eS, oC, upd dC run (nI (e + 1)), yK, cP, cR, oL, oV, upd dT (run * 200 + e) (nI a), upd dK (run * 200 + e) 0))) :
    wpY_enter post (nI n, nI nv, nI na, nI np, nI (nv + na), nI (nv + na + 3 * np), sl, iS, rS, yC, yF, bo, nI c, nI d, nI a, nI T, od, yB, yL, gl 96 ip me, ki, fa, fb, yV, eS, oC, dC, yK, cP, cR, oL, oV, dT, dK) (nI run) := by
  have ivr : vp_in (nI run) 2 := vp_in_nI hrun (by decide)
  have er : (nI run).toNatClampNeg = run := nI_clamp (by omega)
  refine yw_en34 H ha (by omega) (by omega) (by omega) hrun hd hV he (fun yV _ => ?_) (fun _ w => by omega) (fun _ w => absurd hk45 w)
  obtain ⟨⟨hn, hnv, hna, hnp, hc⟩, C, F, hk, hfa, hfb⟩ := H
  obtain ⟨a1, a2, a3, a4, a5, a6, a7, a8⟩ := pg_k5 C ha hk45
  refine pk_eq T 0 (fun w => And.intro ivr ?_) (fun w => ?_) rfl rfl (by omega) (by omega)
  · rw [er]
    refine nm_e (And.intro ivr ?_)
    rw [er, pk_us]
    exact br_f (by decide) (h0 yV w)
  · obtain ⟨p1, p2, p3, p4⟩ := h1 yV (by omega)
    have iv4 : vp_in (nI (run * 200 + e)) 400 := vp_in_nI (by omega) (by decide)
    have e4 : (nI (run * 200 + e)).toNatClampNeg = run * 200 + e := nI_clamp (by omega)
    rcases hk45 with z | z
    · rw [z]
      repeat (first | refine br_t (by decide) ?_ | refine br_f (by decide) ?_)
      refine And.intro ivr ?_
      rw [er, hes]
      repeat (first | refine br_t (by decide) ?_ | refine br_f (by decide) ?_)
      refine And.intro bz_n0 (And.intro bz_f0 (br_f (by decide) (nm_r (bz_s1 (by omega)) (br_f (by decide) (And.intro iv4 ?_)))))
      rw [e4]
      refine nm_e ?_
      by_cases y : v (a + 1) = 0
      · refine br_t y (And.intro iv4 ?_)
        rw [e4, er, he, nI_1]
        refine nm_e (And.intro ivr (And.intro ivr (nm_e ?_)))
        repeat (first | refine br_t (by decide) ?_ | refine br_f (by decide) ?_)
        exact br_t y (yw_end hk hc (i := pg_en kd c (a + 1)) (by omega) (p2 z y) rfl)
      · refine br_f y (And.intro iv4 ?_)
        rw [e4, er, he, nI_1]
        refine nm_e (And.intro ivr (And.intro ivr (nm_e ?_)))
        repeat (first | refine br_t (by decide) ?_ | refine br_f (by decide) ?_)
        exact br_f y (p1 z y)
    · by_cases y : v (a + 1) = 0
      · rw [z]
        repeat (first | refine br_t (by decide) ?_ | refine br_f (by decide) ?_)
        refine And.intro ivr ?_
        rw [er, hes]
        repeat (first | refine br_t (by decide) ?_ | refine br_f (by decide) ?_)
        refine br_t y ?_
        refine And.intro bz_n1 (And.intro bz_f1 (br_f (by decide) (nm_r (bz_s1 (by omega)) (br_f (by decide) (And.intro iv4 ?_)))))
        rw [e4]
        refine nm_e (br_t y (And.intro iv4 ?_))
        rw [e4, er, he, nI_1]
        refine nm_e (And.intro ivr (And.intro ivr (nm_e ?_)))
        repeat (first | refine br_t (by decide) ?_ | refine br_f (by decide) ?_)
        exact br_t y (p4 z y)
      · rw [z]
        repeat (first | refine br_t (by decide) ?_ | refine br_f (by decide) ?_)
        refine And.intro ivr ?_
        rw [er, hes]
        repeat (first | refine br_t (by decide) ?_ | refine br_f (by decide) ?_)
        refine br_f y ?_
        refine And.intro bz_n0 (And.intro bz_f0 (br_f (by decide) (nm_r (bz_s1 (by omega)) (br_f (by decide) (And.intro iv4 ?_)))))
        rw [e4]
        refine nm_e (br_f y (And.intro iv4 ?_))
        rw [e4, er, he, nI_1]
        refine nm_e (And.intro ivr (And.intro ivr (nm_e ?_)))
        repeat (first | refine br_t (by decide) ?_ | refine br_f (by decide) ?_)
        exact br_f y (p3 z y)
theorem yw_en6 (H : my_H kd fA fB n nv na np c ki fa fb) {a run d e T : Nat} (ha : a < c) (hk6 : kd a = 6) (hrun : run < 2) (hd : d ≤ 6) (hT : T ≤ 200) {v : Nat → Int32} (hV : ma_V kd fA fa nv c me run d cP v) (he : dC run = nI e) (hes : eS run = 0) {post : SY → Prop}
    (h0 : ∀ yV, T = 0 → post (nI n, nI nv, nI na, nI np, nI (nv + na), nI (nv + na + 3 * np), sl, iS, rS, yC, yF, bo, nI c, nI d, nI a, nI T, od, yB, yL, gl 96 ip me, ki, fa, fb, yV, upd eS run 2, oC, dC, yK, cP, cR, oL, oV, dT, dK))
    (h6 : ∀ yV, 0 < T → d = 6 → post (nI n, nI nv, nI na, nI np, nI (nv + na), nI (nv + na + 3 * np), sl, iS, rS, yC, yF, bo, nI c, nI d, nI a, nI T, od, yB, yL, gl 96 ip me, ki, fa, fb, yV, upd eS run 3, oC, dC, yK, cP, cR, oL, oV, dT, dK))
    (h1 : ∀ yV, 0 < T → d < 6 → post (nI n, nI nv, nI na, nI np, nI (nv + na), nI (nv + na + 3 * np), sl, iS, rS, yC, 0, bo, nI c, nI (d + 1), nI (pg_st kd c (fA a)), nI (T - 1), od, yB, yL, gl 96 ip me, ki, fa, fb, yV, eS, oC, dC, upd yK d (nI a), upd cP d (v (a + 1)), upd cR d 0, oL, oV, dT, dK)) :
    wpY_enter post (nI n, nI nv, nI na, nI np, nI (nv + na), nI (nv + na + 3 * np), sl, iS, rS, yC, yF, bo, nI c, nI d, nI a, nI T, od, yB, yL, gl 96 ip me, ki, fa, fb, yV, eS, oC, dC, yK, cP, cR, oL, oV, dT, dK) (nI run) := by
  have ivr : vp_in (nI run) 2 := vp_in_nI hrun (by decide)
  have er : (nI run).toNatClampNeg = run := nI_clamp (by omega)
  refine yw_en34 H ha (by omega) (by omega) (by omega) hrun hd hV he (fun _ w => by omega) (fun yV _ => ?_) (fun _ _ w => absurd hk6 w)
  obtain ⟨⟨hn, hnv, hna, hnp, hc⟩, C, F, hk, hfa, hfb⟩ := H
  have g := hfa a ha (by omega)
  have fv := ((F a ha).2.2.2.1 hk6).1
  refine pk_eq T 0 (fun w => And.intro ivr ?_) (fun w => ?_) rfl rfl (by omega) (by omega)
  · rw [er]
    refine nm_e (And.intro ivr ?_)
    rw [er, pk_us]
    exact br_f (by decide) (h0 yV w)
  · rw [hk6]
    refine br_t (by decide) ?_
    refine pk_eq d 6 (fun w6 => And.intro ivr ?_) (fun w6 => ?_) rfl rfl (by omega) (by omega)
    · rw [er]
      refine nm_e (And.intro ivr ?_)
      rw [er, pk_us]
      exact br_f (by decide) (h6 yV (by omega) w6)
    · repeat (first | refine br_t (by decide) ?_ | refine br_f (by decide) ?_)
      refine And.intro ivr ?_
      rw [er, hes]
      repeat (first | refine br_t (by decide) ?_ | refine br_f (by decide) ?_)
      refine And.intro bz_n0 (And.intro bz_f0 (br_t rfl (br_t (by decide) (nm_r (bz_s1 (by omega)) ?_))))
      repeat (first | refine br_t (by decide) ?_ | refine br_f (by decide) ?_)
      have ivd : vp_in (nI d) 6 := vp_in_nI (by omega) (by decide)
      rw [nI_clamp (n := d) (by omega), nI_clamp (n := a) (by omega), g]
      refine And.intro ivd (nm_e (And.intro ivd (nm_e (And.intro ivd (nm_e (nm_r (nI_1 d) (And.intro (vp_in_nI (by omega) (by decide)) ?_)))))))
      exact yw_start hk hc (b := fA a) (by omega) (h1 yV (by omega) (by omega)) rfl
end
end
section
/-! the machines in lockstep -/
def mc_fr (n : Nat) (oC oL dC : Nat → Int32) (r : Nat) : Prop := ∃ o e, o ≤ 16 ∧ oC r = nI o ∧ e ≤ 200 ∧ dC r = nI e ∧ ∀ i, i < o → ∃ l, l < n ∧ oL (r * 16 + i) = nI l
/-- an outcome of both runs: whatever the scratch arrays hold -/
def mc_o (n nv na np c : Nat) (sl bo pt iS fc rS : Int32) (od jo loB hiB ki fa fb bf ch bs ps pb pp wS wT sB tL ip sE : Nat → Int32) (yC : Int32) (yB yL : Nat → Int32) (run : Nat) (A : Nat → Prop) (B : Nat) (WX : (Nat → Int32) → (SX → Prop) → Nat → Prop) (WY : (Nat → Int32) → (SY → Prop) → Nat → Prop) : Prop :=
  ∃ cT : Int32, ∃ aC : Int32, ∃ tk : Int32, ∃ yF : Int32, ∃ yD : Int32, ∃ yA : Int32, ∃ yT : Int32, ∃ me : Nat → Int32, ∃ eS : Nat → Int32, ∃ oC : Nat → Int32, ∃ oL : Nat → Int32, ∃ oV : Nat → Int32, ∃ dC : Nat → Int32, ∃ dT : Nat → Int32, ∃ dK : Nat → Int32, ∃ co : Nat → Int32, ∃ cP : Nat → Int32, ∃ cR : Nat → Int32, ∃ yK : Nat → Int32,
    (∀ r, r < 2 → (r = run ∨ A r) → mc_fr n oC oL dC r) ∧ (∀ eV post m, B < m → (∀ eV, post (nI n, nI nv, nI na, nI np, nI (nv + na), nI (nv + na + 3 * np), sl, bo, nI c, pt, iS, fc, rS, cT, aC, tk, od, jo, loB, hiB, ki, fa, fb, bf, ch, bs, ps, pb, pp, wS, wT, sB, tL, ip, me, eS, oC, oL, oV, dC, dT, dK, co, cP, cR, sE, eV)) → WX eV post m) ∧ (∀ yV post m, B < m → (∀ yV, post (nI n, nI nv, nI na, nI np, nI (nv + na), nI (nv + na + 3 * np), sl, iS, rS, yC, yF, bo, nI c, yD, yA, yT, od, yB, yL, gl 96 ip me, ki, fa, fb, yV, eS, oC, dC, yK, cP, cR, oL, oV, dT, dK)) → WY yV post m)
def mc_I (kd : Nat → Nat) (n c : Nat) (A : Nat → Prop) (run T d a : Nat) (ck : Nat → Nat) (L : List Int32) (cT : Int32) (eS oC oL dC co yK : Nat → Int32) : Prop :=
  a < c ∧ kd a ≤ 8 ∧ d ≤ 6 ∧ T ≤ 200 ∧ eS run = 0 ∧ (∃ o e, o ≤ 16 ∧ oC run = nI o ∧ e + T ≤ 200 ∧ dC run = nI e ∧ ∀ i, i < o → ∃ l, l < n ∧ oL (run * 16 + i) = nI l) ∧
  (∀ r, r < 2 → r ≠ run → A r → mc_fr n oC oL dC r) ∧ (∀ j, j < d → ck j < c ∧ kd (ck j) = 6 ∧ yK j = nI (ck j)) ∧ cT = nI L.length ∧ ma_sk co L
def ma_L (K : Nat → List Nat) (ck : Nat → Nat) (d a : Nat) : List Int32 := (K a).map nI ++ ma_S K ck d
def mc_p (kd : Nat → Nat) (c : Nat) (K : Nat → List Nat) (P : Nat → Nat) (T d a : Nat) (ck : Nat → Nat) (L : List Int32) (yF : Int32) (F : Nat) : Prop :=
  (yF = 0 ∧ L = nI a :: ma_L K ck d a ∧ 3 * (pg_en kd c a - a) + P a + ma_U P ck d + 200 * T ≤ F) ∨ (yF = 1 ∧ L = ma_L K ck d a ∧ P a + ma_U P ck d + 200 * T ≤ F)
def mc_cl (n nv na np c : Nat) (sl bo pt iS fc rS : Int32) (od jo loB hiB ki fa fb bf ch bs ps pb pp wS wT sB tL ip sE : Nat → Int32) (yC : Int32) (yB yL : Nat → Int32) (kd : Nat → Nat) (K : Nat → List Nat) (P : Nat → Nat) (run : Nat) (A : Nat → Prop) (F : Nat) : Prop :=
  ∀ (T d a : Nat) (ck : Nat → Nat) (L : List Int32) (cT yF : Int32) (me eS oC oL oV dC dT dK co cP cR yK : Nat → Int32) (x3 s : Nat), mc_I kd n c A run T d a ck L cT eS oC oL dC co yK → mc_p kd c K P T d a ck L yF F → x3 + F + 1 < 65536 → s + F + 1 < 200000 →
    mc_o n nv na np c sl bo pt iS fc rS od jo loB hiB ki fa fb bf ch bs ps pb pp wS wT sB tL ip sE yC yB yL run A (F + 1) (fun eV post m => wX_execute_87 post (nI run) m (nI x3) (nI n) (nI nv) (nI na) (nI np) (nI (nv + na)) (nI (nv + na + 3 * np)) sl bo (nI c) pt iS fc rS cT (nI d) (nI T) od jo loB hiB ki fa fb bf ch bs ps pb pp wS wT sB tL ip me eS oC oL oV dC dT dK co cP cR sE eV) (fun yV post m => wY_execute_97 post (nI run) m (nI s) (nI n) (nI nv) (nI na) (nI np) (nI (nv + na)) (nI (nv + na + 3 * np)) sl iS rS yC yF bo (nI c) (nI d) (nI a) (nI T) od yB yL (gl 96 ip me) ki fa fb yV eS oC dC yK cP cR oL oV dT dK)
section
variable {n nv na np c : Nat} {sl bo pt iS fc rS cT aC tk : Int32} {od jo loB hiB ki fa fb bf ch bs ps pb pp wS wT sB tL ip me eS oC oL oV dC dT dK co cP cR sE eV : Nat → Int32} {yC yF yD yA yT : Int32} {yB yL yE yV yK : Nat → Int32}
variable {kd fA fB : Nat → Nat} {K : Nat → List Nat} {P : Nat → Nat} {run : Nat} {A : Nat → Prop}
theorem mc_step {B : Nat} {WX WX1 : (Nat → Int32) → (SX → Prop) → Nat → Prop} {WY WY1 : (Nat → Int32) → (SY → Prop) → Nat → Prop} (h : mc_o n nv na np c sl bo pt iS fc rS od jo loB hiB ki fa fb bf ch bs ps pb pp wS wT sB tL ip sE yC yB yL run A B WX1 WY1) (hX : ∀ eV post m, (∀ eV, WX1 eV post m) → WX eV post (m + 1)) (hY : ∀ yV post m, (∀ yV, WY1 yV post m) → WY yV post (m + 1)) : mc_o n nv na np c sl bo pt iS fc rS od jo loB hiB ki fa fb bf ch bs ps pb pp wS wT sB tL ip sE yC yB yL run A (B + 1) WX WY := by
  obtain ⟨cT, aC, tk, yF, yD, yA, yT, me, eS, oC, oL, oV, dC, dT, dK, co, cP, cR, yK, h1, h2, h3⟩ := h
  refine ⟨cT, aC, tk, yF, yD, yA, yT, me, eS, oC, oL, oV, dC, dT, dK, co, cP, cR, yK, h1, fun eV post m hm hp => ?_, fun yV post m hm hp => ?_⟩
  · obtain ⟨m, rfl⟩ : ∃ e, m = e + 1 := ⟨m - 1, by omega⟩
    exact hX eV post m (fun eV => h2 eV post m (by omega) hp)
  · obtain ⟨m, rfl⟩ : ∃ e, m = e + 1 := ⟨m - 1, by omega⟩
    exact hY yV post m (fun yV => h3 yV post m (by omega) hp)
theorem mc_stut {B : Nat} {WX : (Nat → Int32) → (SX → Prop) → Nat → Prop} {WY WY1 : (Nat → Int32) → (SY → Prop) → Nat → Prop} (h : mc_o n nv na np c sl bo pt iS fc rS od jo loB hiB ki fa fb bf ch bs ps pb pp wS wT sB tL ip sE yC yB yL run A B WX WY1) (hY : ∀ yV post m, (∀ yV, WY1 yV post m) → WY yV post (m + 1)) : mc_o n nv na np c sl bo pt iS fc rS od jo loB hiB ki fa fb bf ch bs ps pb pp wS wT sB tL ip sE yC yB yL run A (B + 1) WX WY := by
  obtain ⟨cT, aC, tk, yF, yD, yA, yT, me, eS, oC, oL, oV, dC, dT, dK, co, cP, cR, yK, h1, h2, h3⟩ := h
  refine ⟨cT, aC, tk, yF, yD, yA, yT, me, eS, oC, oL, oV, dC, dT, dK, co, cP, cR, yK, h1, fun eV post m hm hp => ?_, fun yV post m hm hp => ?_⟩
  · exact h2 eV post m (by omega) hp
  · obtain ⟨m, rfl⟩ : ∃ e, m = e + 1 := ⟨m - 1, by omega⟩
    exact hY yV post m (fun yV => h3 yV post m (by omega) hp)
theorem mc_mono {B B' : Nat} (hB : B ≤ B') {WX : (Nat → Int32) → (SX → Prop) → Nat → Prop} {WY : (Nat → Int32) → (SY → Prop) → Nat → Prop} (h : mc_o n nv na np c sl bo pt iS fc rS od jo loB hiB ki fa fb bf ch bs ps pb pp wS wT sB tL ip sE yC yB yL run A B WX WY) : mc_o n nv na np c sl bo pt iS fc rS od jo loB hiB ki fa fb bf ch bs ps pb pp wS wT sB tL ip sE yC yB yL run A B' WX WY := by
  obtain ⟨cT, aC, tk, yF, yD, yA, yT, me, eS, oC, oL, oV, dC, dT, dK, co, cP, cR, yK, h1, h2, h3⟩ := h
  exact ⟨cT, aC, tk, yF, yD, yA, yT, me, eS, oC, oL, oV, dC, dT, dK, co, cP, cR, yK, h1, fun eV post m hm hp => h2 eV post m (by omega) hp, fun yV post m hm hp => h3 yV post m (by omega) hp⟩
/-- both loops leave at once when the run has ended -/
theorem mc_end {x3 s : Nat} (hrun : run < 2) (hx : x3 < 65536) (hs : s < 200000) (he : ¬ eS run = 0) (hf : ∀ r, r < 2 → (r = run ∨ A r) → mc_fr n oC oL dC r) :
    mc_o n nv na np c sl bo pt iS fc rS od jo loB hiB ki fa fb bf ch bs ps pb pp wS wT sB tL ip sE yC yB yL run A 0 (fun eV post m => wX_execute_87 post (nI run) m (nI x3) (nI n) (nI nv) (nI na) (nI np) (nI (nv + na)) (nI (nv + na + 3 * np)) sl bo (nI c) pt iS fc rS cT aC tk od jo loB hiB ki fa fb bf ch bs ps pb pp wS wT sB tL ip me eS oC oL oV dC dT dK co cP cR sE eV) (fun yV post m => wY_execute_97 post (nI run) m (nI s) (nI n) (nI nv) (nI na) (nI np) (nI (nv + na)) (nI (nv + na + 3 * np)) sl iS rS yC yF bo (nI c) yD yA yT od yB yL (gl 96 ip me) ki fa fb yV eS oC dC yK cP cR oL oV dT dK) := by
  have ivr : vp_in (nI run) 2 := vp_in_nI hrun (by decide)
  have er : (nI run).toNatClampNeg = run := nI_clamp (by omega)
  refine ⟨cT, aC, tk, yF, yD, yA, yT, me, eS, oC, oL, oV, dC, dT, dK, co, cP, cR, yK, hf, fun eV post m hm hp => ?_, fun yV post m hm hp => ?_⟩
  · obtain ⟨m, rfl⟩ : ∃ e, m = e + 1 := ⟨m - 1, by omega⟩
    refine br_f (nI_ge (b := 65536) hx (by decide)) (And.intro ivr ?_)
    rw [er]
    exact br_f he (hp eV)
  · obtain ⟨m, rfl⟩ : ∃ e, m = e + 1 := ⟨m - 1, by omega⟩
    refine br_f (nI_ge (b := 200000) hs (by decide)) (And.intro ivr ?_)
    rw [er]
    exact br_f he (hp yV)
theorem mc_frs {T d a : Nat} {ck : Nat → Nat} {L : List Int32} (h : mc_I kd n c A run T d a ck L cT eS oC oL dC co yK) : ∀ r, r < 2 → (r = run ∨ A r) → mc_fr n oC oL dC r := by
  obtain ⟨h1, h2, h3, h4, h5, ⟨o, e, o1, o2, o3, o4, o5⟩, h7, h8, h9, h10⟩ := h
  intro r hr hA
  by_cases z : r = run
  · subst z
    exact ⟨o, e, o1, o2, by omega, o4, o5⟩
  · exact h7 r hr z (hA.elim (fun w => absurd w z) id)
theorem bz_ret {b : Nat} (hb : b < 2 ^ 29) : ¬ (0 : Int32) ≤ -1 - nI b := by
  have e : (-1 : Int32) - nI b = nI 0 - nI (b + 1) := by rw [nI_succ, nI_0]; grind
  rw [e]
  exact Int32.not_le.mpr (pk_sneg (by omega) (by omega))
theorem ma_P1 (C : pg_C kd np c) (hK : ma_K kd np c K P) {a : Nat} (ha : a < c) (h8 : kd a ≤ 8) : 1 ≤ P a := by
  rcases pg_up C ha h8 with hr | ⟨q, m, hc, hq, hq8, hj⟩
  · rw [((hK a ha).1 hr).2]; omega
  · obtain ⟨h3, h4, h5⟩ := (hK a ha).2 q m hc
    rcases hj with z | ⟨z | z, _⟩
    · by_cases e : a = q + 1
      · rw [((h3 z).1 e).2]; omega
      · rw [((h3 z).2 e).2]; omega
    · rw [(h4 z).2]; omega
    · rw [(h5 z).2]; omega
theorem ma_Ll (C : pg_C kd np c) (hc : c ≤ 64) (hK : ma_K kd np c K P) {ck : Nat → Nat} {d a : Nat} (hd : d ≤ 6) (ha : a < c) (h8 : kd a ≤ 8) (hck : ∀ j, j < d → ck j < c ∧ kd (ck j) = 6 ∧ yK j = nI (ck j)) : (ma_L K ck d a).length ≤ 448 := by
  unfold ma_L
  have h1 := ma_Kl C hK a ha h8
  have h2 := ma_Sl C hc hK (ck := ck) d (fun j hj => ⟨(hck j hj).1, by rw [(hck j hj).2.1]; omega⟩)
  simp only [List.length_append, List.length_map]
  omega
end
end
section
/-! the lockstep: a finished statement -/
section
variable {n nv na np c : Nat} {sl bo pt iS fc rS cT aC tk : Int32} {od jo loB hiB ki fa fb bf ch bs ps pb pp wS wT sB tL ip me eS oC oL oV dC dT dK co cP cR sE eV : Nat → Int32} {yC yF yD yA yT : Int32} {yB yL yE yV yK : Nat → Int32}
variable {kd fA fB : Nat → Nat} {K : Nat → List Nat} {P : Nat → Nat} {run : Nat} {A : Nat → Prop}
theorem mc_fin (HX : mx_H kd fA fB n nv na np c ki fa fb bf ch bs sE) (HY : my_H kd fA fB n nv na np c ki fa fb) (hK : ma_K kd np c K P) (hrun : run < 2) {F : Nat} (ih : mc_cl n nv na np c sl bo pt iS fc rS od jo loB hiB ki fa fb bf ch bs ps pb pp wS wT sB tL ip sE yC yB yL kd K P run A F) {T d a x3 s : Nat} {ck : Nat → Nat} (I : mc_I kd n c A run T d a ck (ma_L K ck d a) cT eS oC oL dC co yK)
    (hp : P a + ma_U P ck d + 200 * T ≤ F + 1) (hx : x3 + (F + 1) + 1 < 65536) (hs : s + (F + 1) + 1 < 200000) :
    mc_o n nv na np c sl bo pt iS fc rS od jo loB hiB ki fa fb bf ch bs ps pb pp wS wT sB tL ip sE yC yB yL run A (F + 1 + 1) (fun eV post m => wX_execute_87 post (nI run) m (nI x3) (nI n) (nI nv) (nI na) (nI np) (nI (nv + na)) (nI (nv + na + 3 * np)) sl bo (nI c) pt iS fc rS cT (nI d) (nI T) od jo loB hiB ki fa fb bf ch bs ps pb pp wS wT sB tL ip me eS oC oL oV dC dT dK co cP cR sE eV) (fun yV post m => wY_execute_97 post (nI run) m (nI s) (nI n) (nI nv) (nI na) (nI np) (nI (nv + na)) (nI (nv + na + 3 * np)) sl iS rS yC 1 bo (nI c) (nI d) (nI a) (nI T) od yB yL (gl 96 ip me) ki fa fb yV eS oC dC yK cP cR oL oV dT dK) := by
  have ivr : vp_in (nI run) 2 := vp_in_nI hrun (by decide)
  have er : (nI run).toNatClampNeg = run := nI_clamp (by omega)
  have frs := mc_frs I
  have HX' := HX
  obtain ⟨⟨hn, hnv, hna, hnp, hc⟩, C, hF, hk, hfa, hfb, hH, hsE⟩ := HX
  have I' := I
  obtain ⟨ha, h8, hd, hT, hes, hoe, hfr, hck, hcT, hsk⟩ := I
  rcases pg_up C ha h8 with hr | ⟨q, mm, hch, hq, hq8, hj⟩
  · obtain ⟨k1, k2⟩ := (hK a ha).1 hr
    cases d with
    | zero =>
      have eL : ma_L K ck 0 a = [] := by unfold ma_L; rw [k1]; rfl
      rw [eL] at hcT
      have he' : ¬ upd eS run 1 run = 0 := by rw [pk_us]; decide
      have o := mc_end (n := n) (nv := nv) (na := na) (np := np) (c := c) (sl := sl) (bo := bo) (pt := pt) (iS := iS) (fc := fc) (rS := rS) (od := od) (jo := jo) (loB := loB) (hiB := hiB) (ki := ki) (fa := fa) (fb := fb) (bf := bf) (ch := ch) (bs := bs) (ps := ps) (pb := pb) (pp := pp) (wS := wS) (wT := wT) (sB := sB) (tL := tL) (ip := ip) (sE := sE) (yC := yC) (yB := yB) (yL := yL) (cT := cT) (aC := nI 0) (tk := nI T) (yF := 1) (yD := nI 0) (yA := nI a) (yT := nI T) (me := me) (eS := upd eS run 1) (oC := oC) (oL := oL) (oV := oV) (dC := dC) (dT := dT) (dK := dK) (co := co) (cP := cP) (cR := cR) (yK := yK) (x3 := x3 + 1) (s := s + 1) (A := A) hrun (by omega) (by omega) he' frs
      refine mc_mono (B := 0 + 1) (by omega) (mc_step o (fun eV post m hw => ?_) (fun yV post m hw => ?_))
      · refine br_f (nI_ge (b := 65536) (by omega) (by decide)) (And.intro ivr ?_)
        rw [er, hes]
        refine br_t rfl (br_t (by rw [hcT]; rfl) (And.intro ivr (nm_e (nm_r (nI_1 x3) (hw eV)))))
      · refine br_f (nI_ge (b := 200000) (by omega) (by decide)) (And.intro ivr ?_)
        rw [er, hes]
        refine br_t rfl (br_f (by decide) ?_)
        exact yw_lv_rt HY ha hr hrun (fun _ => nm_r (nI_1 s) (hw yV)) (fun w => absurd rfl w)
    | succ d =>
      obtain ⟨b1, b2, b3⟩ := hck d (by omega)
      have eL : ma_L K ck (d + 1) a = (-1 - nI (ck d)) :: ma_L K ck d (ck d) := by unfold ma_L; rw [k1]; rfl
      rw [eL] at hcT hsk
      have hl : (ma_L K ck d (ck d)).length ≤ 448 := ma_Ll (yK := yK) C hc hK (by omega) b1 (by omega) (fun j hj => hck j (by omega))
      have o := ih T d (ck d) ck (ma_L K ck d (ck d)) (nI (ma_L K ck d (ck d)).length) 1 (upd me (run * 48 + fB (ck d) * 4) (cR d)) eS oC oL oV dC dT dK co cP cR yK (x3 + 1) (s + 1) ⟨b1, by omega, by omega, hT, hes, hoe, hfr, fun j hj => hck j (by omega), rfl, hsk.2⟩ (Or.inr ⟨rfl, rfl, by have e : ma_U P ck (d + 1) = P (ck d) + ma_U P ck d := rfl; omega⟩) (by omega) (by omega)
      refine mc_step o (fun eV post m hw => ?_) (fun yV post m hw => ?_)
      · refine br_f (nI_ge (b := 65536) (by omega) (by decide)) (And.intro ivr ?_)
        rw [er, hes, hcT]
        refine br_t rfl (br_f (nI_ne0 (by simp) (by simp only [List.length_cons]; omega)) (nm_r (e' := nI (ma_L K ck d (ck d)).length) (by simp only [List.length_cons]; exact nI_pred _) (And.intro (vp_in_nI (by omega) (by decide)) ?_)))
        rw [nI_clamp (n := (ma_L K ck d (ck d)).length) (by omega), hsk.1]
        refine nm_e (br_f (bz_ret (by omega)) ?_)
        exact xw_fin HX' hrun (by omega) b1 b2 (nm_r (nI_1 x3) (hw eV))
      · refine br_f (nI_ge (b := 200000) (by omega) (by decide)) (And.intro ivr ?_)
        rw [er, hes]
        refine br_t rfl (br_f (by decide) ?_)
        exact yw_lv_ret HY ha hr hrun (by omega) b1 b2 b3 (nm_r (nI_1 s) (hw yV))
  · obtain ⟨h3, h4, h5⟩ := (hK a ha).2 q mm hch
    have hqc : q < c := by omega
    have stq : ∀ yF', mc_p kd c K P T d q ck (ma_L K ck d a) yF' F → mc_I kd n c A run T d q ck (ma_L K ck d a) cT eS oC oL dC co yK → mc_o n nv na np c sl bo pt iS fc rS od jo loB hiB ki fa fb bf ch bs ps pb pp wS wT sB tL ip sE yC yB yL run A (F + 1) (fun eV post m => wX_execute_87 post (nI run) m (nI x3) (nI n) (nI nv) (nI na) (nI np) (nI (nv + na)) (nI (nv + na + 3 * np)) sl bo (nI c) pt iS fc rS cT (nI d) (nI T) od jo loB hiB ki fa fb bf ch bs ps pb pp wS wT sB tL ip me eS oC oL oV dC dT dK co cP cR sE eV) (fun yV post m => wY_execute_97 post (nI run) m (nI (s + 1)) (nI n) (nI nv) (nI na) (nI np) (nI (nv + na)) (nI (nv + na + 3 * np)) sl iS rS yC yF' bo (nI c) (nI d) (nI q) (nI T) od yB yL (gl 96 ip me) ki fa fb yV eS oC dC yK cP cR oL oV dT dK) :=
      fun yF' p I2 => ih T d q ck (ma_L K ck d a) cT yF' me eS oC oL oV dC dT dK co cP cR yK x3 (s + 1) I2 p (by omega) (by omega)
    have Iq : mc_I kd n c A run T d q ck (ma_L K ck d a) cT eS oC oL dC co yK := ⟨hqc, hq8, hd, hT, hes, hoe, hfr, hck, hcT, hsk⟩
    rcases hj with z | ⟨z | z, _⟩
    · by_cases e : a = q + 1
      · obtain ⟨l1, l2⟩ := (h3 z).1 e
        obtain ⟨g1, g2, g3, g4, g5, g6, g7, g8⟩ := pg_k3 C hqc z
        rw [← e] at g3 g4 g5 g6 g8
        obtain ⟨m1, m2⟩ := (((hK _ g4).2 q 1 g8).1 z).2 (by omega)
        have eL : ma_L K ck d a = nI (pg_en kd c a) :: ma_L K ck d (pg_en kd c a) := by unfold ma_L; rw [l1, m1]; rfl
        have o := ih T d (pg_en kd c a) ck (ma_L K ck d a) cT 0 me eS oC oL oV dC dT dK co cP cR yK x3 (s + 1) ⟨g4, g5, hd, hT, hes, hoe, hfr, hck, hcT, hsk⟩ (Or.inl ⟨rfl, eL, by omega⟩) (by omega) (by omega)
        refine mc_stut o (fun yV post m hw => ?_)
        refine br_f (nI_ge (b := 200000) (by omega) (by decide)) (And.intro ivr ?_)
        rw [er, hes]
        refine br_t rfl (br_f (by decide) ?_)
        exact yw_lv_ch HY ha hch (fun _ _ => nm_r (nI_1 s) (hw yV)) (fun _ w => absurd e w) (fun w => by omega) (fun w => absurd z w)
      · obtain ⟨l1, l2⟩ := (h3 z).2 e
        have eL : ma_L K ck d a = ma_L K ck d q := by unfold ma_L; rw [l1]
        refine mc_stut (stq 1 (Or.inr ⟨rfl, eL, by omega⟩) Iq) (fun yV post m hw => ?_)
        refine br_f (nI_ge (b := 200000) (by omega) (by decide)) (And.intro ivr ?_)
        rw [er, hes]
        refine br_t rfl (br_f (by decide) ?_)
        exact yw_lv_ch HY ha hch (fun _ w => absurd w e) (fun _ _ => nm_r (nI_1 s) (hw yV)) (fun w => by omega) (fun w => absurd z w)
    · obtain ⟨l1, l2⟩ := h4 z
      have eL : ma_L K ck d a = ma_L K ck d q := by unfold ma_L; rw [l1]
      refine mc_stut (stq 1 (Or.inr ⟨rfl, eL, by omega⟩) Iq) (fun yV post m hw => ?_)
      refine br_f (nI_ge (b := 200000) (by omega) (by decide)) (And.intro ivr ?_)
      rw [er, hes]
      refine br_t rfl (br_f (by decide) ?_)
      exact yw_lv_ch HY ha hch (fun w => by omega) (fun w => by omega) (fun w => by omega) (fun _ _ => nm_r (nI_1 s) (hw yV))
    · obtain ⟨l1, l2⟩ := h5 z
      have eL : ma_L K ck d a = nI q :: ma_L K ck d q := by unfold ma_L; rw [l1]; rfl
      refine mc_stut (stq 0 (Or.inl ⟨rfl, eL, by omega⟩) Iq) (fun yV post m hw => ?_)
      refine br_f (nI_ge (b := 200000) (by omega) (by decide)) (And.intro ivr ?_)
      rw [er, hes]
      refine br_t rfl (br_f (by decide) ?_)
      exact yw_lv_ch HY ha hch (fun w => by omega) (fun w => by omega) (fun _ => nm_r (nI_1 s) (hw yV)) (fun _ w => absurd z w)
end
end
section
/-! the lockstep: a statement begins (SKIP) -/
section
variable {n nv na np c : Nat} {sl bo pt iS fc rS cT aC tk : Int32} {od jo loB hiB ki fa fb bf ch bs ps pb pp wS wT sB tL ip me eS oC oL oV dC dT dK co cP cR sE eV : Nat → Int32} {yC yF yD yA yT : Int32} {yB yL yE yV yK : Nat → Int32}
variable {kd fA fB : Nat → Nat} {K : Nat → List Nat} {P : Nat → Nat} {run : Nat} {A : Nat → Prop}
theorem mc_e0 (HX : mx_H kd fA fB n nv na np c ki fa fb bf ch bs sE) (HY : my_H kd fA fB n nv na np c ki fa fb) (hK : ma_K kd np c K P) (hrun : run < 2) {F : Nat} (ih : mc_cl n nv na np c sl bo pt iS fc rS od jo loB hiB ki fa fb bf ch bs ps pb pp wS wT sB tL ip sE yC yB yL kd K P run A F) {T d a x3 s : Nat} {ck : Nat → Nat} (I : mc_I kd n c A run T d a ck (nI a :: ma_L K ck d a) cT eS oC oL dC co yK)
    (hp : 3 * (pg_en kd c a - a) + P a + ma_U P ck d + 200 * T ≤ F + 1) (hx : x3 + (F + 1) + 1 < 65536) (hs : s + (F + 1) + 1 < 200000) (z : kd a = 0) :
    mc_o n nv na np c sl bo pt iS fc rS od jo loB hiB ki fa fb bf ch bs ps pb pp wS wT sB tL ip sE yC yB yL run A (F + 1 + 1) (fun eV post m => wX_execute_87 post (nI run) m (nI x3) (nI n) (nI nv) (nI na) (nI np) (nI (nv + na)) (nI (nv + na + 3 * np)) sl bo (nI c) pt iS fc rS cT (nI d) (nI T) od jo loB hiB ki fa fb bf ch bs ps pb pp wS wT sB tL ip me eS oC oL oV dC dT dK co cP cR sE eV) (fun yV post m => wY_execute_97 post (nI run) m (nI s) (nI n) (nI nv) (nI na) (nI np) (nI (nv + na)) (nI (nv + na + 3 * np)) sl iS rS yC 0 bo (nI c) (nI d) (nI a) (nI T) od yB yL (gl 96 ip me) ki fa fb yV eS oC dC yK cP cR oL oV dT dK) := by
  have ivr : vp_in (nI run) 2 := vp_in_nI hrun (by decide)
  have er : (nI run).toNatClampNeg = run := nI_clamp (by omega)
  have frs := mc_frs I
  have HX' := HX
  obtain ⟨⟨hn, hnv, hna, hnp, hc⟩, C, hF, hk, hfa, hfb, hH, hsE⟩ := HX
  obtain ⟨ha, h8, hd, hT, hes, hoe, hfr, hck, hcT, hco, hskS⟩ := I
  have hl : (ma_L K ck d a).length ≤ 448 := ma_Ll (yK := yK) C hc hK hd ha h8 hck
  have elt := pg_enlt C ha
  obtain ⟨h, hh⟩ : ∃ h, h = (ma_L K ck d a).length := ⟨_, rfl⟩
  rw [← hh] at hl hco
  rw [show (nI a :: ma_L K ck d a).length = h + 1 from by rw [hh]; rfl] at hcT
  obtain ⟨v, hV⟩ := ma_Vex (fA := fA) (fa := fa) (nv := nv) C me run d cP
  obtain ⟨o, e, o1, o2, o3, o4, o5⟩ := hoe
  have hoe : ∃ o e, o ≤ 16 ∧ oC run = nI o ∧ e + T ≤ 200 ∧ dC run = nI e ∧ ∀ i, i < o → ∃ l, l < n ∧ oL (run * 16 + i) = nI l := ⟨o, e, o1, o2, o3, o4, o5⟩
  have q := ih T d a ck (ma_L K ck d a) (nI h) 1 me eS oC oL oV dC dT dK co cP cR yK (x3 + 1) (s + 1) ⟨ha, h8, hd, hT, hes, hoe, hfr, hck, by rw [hh], hskS⟩ (Or.inr ⟨rfl, rfl, by omega⟩) (by omega) (by omega)
  refine mc_step q (fun eV post m hw => ?_) (fun yV post m hw => ?_)
  · refine br_f (nI_ge (b := 65536) (by omega) (by decide)) (And.intro ivr ?_)
    rw [er, hes, hcT]
    refine br_t rfl (br_f (nI_ne0 (by omega) (by omega)) (nm_r (nI_pred h) (And.intro (vp_in_nI (by omega) (by decide)) ?_)))
    rw [nI_clamp (n := h) (by omega), hco]
    refine nm_e (br_t (nI_pos' (by omega)) ?_)
    refine xw_es HX' ha (fun _ => ?_) (fun w => by omega) (fun w => by omega) (fun w => by omega) (fun w => by omega) (fun w => by omega) (fun w => by omega) (fun w => by omega) h8
    exact nm_r (nI_1 x3) (hw eV)
  · refine br_f (nI_ge (b := 200000) (by omega) (by decide)) (And.intro ivr ?_)
    rw [er, hes]
    refine br_t rfl (br_t rfl ?_)
    exact yw_en0 (d := d) HY ha (Or.inl z) hrun o4 hes (fun _ => nm_r (nI_1 s) (hw yV)) (fun w => by omega)
end
/-! the lockstep: a statement begins (SET) -/
section
variable {n nv na np c : Nat} {sl bo pt iS fc rS cT aC tk : Int32} {od jo loB hiB ki fa fb bf ch bs ps pb pp wS wT sB tL ip me eS oC oL oV dC dT dK co cP cR sE eV : Nat → Int32} {yC yF yD yA yT : Int32} {yB yL yE yV yK : Nat → Int32}
variable {kd fA fB : Nat → Nat} {K : Nat → List Nat} {P : Nat → Nat} {run : Nat} {A : Nat → Prop}
theorem mc_e1 (HX : mx_H kd fA fB n nv na np c ki fa fb bf ch bs sE) (HY : my_H kd fA fB n nv na np c ki fa fb) (hK : ma_K kd np c K P) (hrun : run < 2) {F : Nat} (ih : mc_cl n nv na np c sl bo pt iS fc rS od jo loB hiB ki fa fb bf ch bs ps pb pp wS wT sB tL ip sE yC yB yL kd K P run A F) {T d a x3 s : Nat} {ck : Nat → Nat} (I : mc_I kd n c A run T d a ck (nI a :: ma_L K ck d a) cT eS oC oL dC co yK)
    (hp : 3 * (pg_en kd c a - a) + P a + ma_U P ck d + 200 * T ≤ F + 1) (hx : x3 + (F + 1) + 1 < 65536) (hs : s + (F + 1) + 1 < 200000) (z : kd a = 1) :
    mc_o n nv na np c sl bo pt iS fc rS od jo loB hiB ki fa fb bf ch bs ps pb pp wS wT sB tL ip sE yC yB yL run A (F + 1 + 1) (fun eV post m => wX_execute_87 post (nI run) m (nI x3) (nI n) (nI nv) (nI na) (nI np) (nI (nv + na)) (nI (nv + na + 3 * np)) sl bo (nI c) pt iS fc rS cT (nI d) (nI T) od jo loB hiB ki fa fb bf ch bs ps pb pp wS wT sB tL ip me eS oC oL oV dC dT dK co cP cR sE eV) (fun yV post m => wY_execute_97 post (nI run) m (nI s) (nI n) (nI nv) (nI na) (nI np) (nI (nv + na)) (nI (nv + na + 3 * np)) sl iS rS yC 0 bo (nI c) (nI d) (nI a) (nI T) od yB yL (gl 96 ip me) ki fa fb yV eS oC dC yK cP cR oL oV dT dK) := by
  have ivr : vp_in (nI run) 2 := vp_in_nI hrun (by decide)
  have er : (nI run).toNatClampNeg = run := nI_clamp (by omega)
  have frs := mc_frs I
  have HX' := HX
  obtain ⟨⟨hn, hnv, hna, hnp, hc⟩, C, hF, hk, hfa, hfb, hH, hsE⟩ := HX
  obtain ⟨ha, h8, hd, hT, hes, hoe, hfr, hck, hcT, hco, hskS⟩ := I
  have hl : (ma_L K ck d a).length ≤ 448 := ma_Ll (yK := yK) C hc hK hd ha h8 hck
  have elt := pg_enlt C ha
  obtain ⟨h, hh⟩ : ∃ h, h = (ma_L K ck d a).length := ⟨_, rfl⟩
  rw [← hh] at hl hco
  rw [show (nI a :: ma_L K ck d a).length = h + 1 from by rw [hh]; rfl] at hcT
  obtain ⟨v, hV⟩ := ma_Vex (fA := fA) (fa := fa) (nv := nv) C me run d cP
  obtain ⟨o, e, o1, o2, o3, o4, o5⟩ := hoe
  have hoe : ∃ o e, o ≤ 16 ∧ oC run = nI o ∧ e + T ≤ 200 ∧ dC run = nI e ∧ ∀ i, i < o → ∃ l, l < n ∧ oL (run * 16 + i) = nI l := ⟨o, e, o1, o2, o3, o4, o5⟩
  obtain ⟨a1, a2, a3⟩ := pg_k1 C ha (by omega)
  have g := hfa a ha (by omega)
  have fv := (hF a ha).2.1 (Or.inl z)
  have q := ih T d a ck (ma_L K ck d a) (nI h) 1 (upd me (run * 48 + fA a * 4) (v (a + 1))) eS oC oL oV dC dT dK co cP cR yK (x3 + 1) (s + 1) ⟨ha, h8, hd, hT, hes, hoe, hfr, hck, by rw [hh], hskS⟩ (Or.inr ⟨rfl, rfl, by omega⟩) (by omega) (by omega)
  refine mc_step q (fun eV post m hw => ?_) (fun yV post m hw => ?_)
  · refine br_f (nI_ge (b := 65536) (by omega) (by decide)) (And.intro ivr ?_)
    rw [er, hes, hcT]
    refine br_t rfl (br_f (nI_ne0 (by omega) (by omega)) (nm_r (nI_pred h) (And.intro (vp_in_nI (by omega) (by decide)) ?_)))
    rw [nI_clamp (n := h) (by omega), hco]
    refine nm_e (br_t (nI_pos' (by omega)) ?_)
    refine xw_es HX' ha (fun w => by omega) (fun _ => ?_) (fun w => by omega) (fun w => by omega) (fun w => by omega) (fun w => by omega) (fun w => by omega) (fun w => by omega) h8
    refine And.intro (vp_in_nI (by omega) (by decide)) ?_
    refine xw_eval HX' hrun hd hV a1 a2 (fun eV => ?_) rfl
    show vp_in (nI run * 48 + fa a * 4) 96 ∧ _
    rw [g, bz_484, nI_clamp (n := run * 48 + fA a * 4) (by omega)]
    exact And.intro (vp_in_nI (by omega) (by decide)) (nm_e (nm_r (nI_1 x3) (hw eV)))
  · refine br_f (nI_ge (b := 200000) (by omega) (by decide)) (And.intro ivr ?_)
    rw [er, hes]
    refine br_t rfl (br_t rfl ?_)
    exact yw_en1 HY ha z hrun hd hV o4 hes (fun yV => nm_r (nI_1 s) (hw yV))
end
/-! the lockstep: a statement begins (STORE) -/
section
variable {n nv na np c : Nat} {sl bo pt iS fc rS cT aC tk : Int32} {od jo loB hiB ki fa fb bf ch bs ps pb pp wS wT sB tL ip me eS oC oL oV dC dT dK co cP cR sE eV : Nat → Int32} {yC yF yD yA yT : Int32} {yB yL yE yV yK : Nat → Int32}
variable {kd fA fB : Nat → Nat} {K : Nat → List Nat} {P : Nat → Nat} {run : Nat} {A : Nat → Prop}
theorem mc_e2 (HX : mx_H kd fA fB n nv na np c ki fa fb bf ch bs sE) (HY : my_H kd fA fB n nv na np c ki fa fb) (hK : ma_K kd np c K P) (hrun : run < 2) {F : Nat} (ih : mc_cl n nv na np c sl bo pt iS fc rS od jo loB hiB ki fa fb bf ch bs ps pb pp wS wT sB tL ip sE yC yB yL kd K P run A F) {T d a x3 s : Nat} {ck : Nat → Nat} (I : mc_I kd n c A run T d a ck (nI a :: ma_L K ck d a) cT eS oC oL dC co yK)
    (hp : 3 * (pg_en kd c a - a) + P a + ma_U P ck d + 200 * T ≤ F + 1) (hx : x3 + (F + 1) + 1 < 65536) (hs : s + (F + 1) + 1 < 200000) (z : kd a = 2) :
    mc_o n nv na np c sl bo pt iS fc rS od jo loB hiB ki fa fb bf ch bs ps pb pp wS wT sB tL ip sE yC yB yL run A (F + 1 + 1) (fun eV post m => wX_execute_87 post (nI run) m (nI x3) (nI n) (nI nv) (nI na) (nI np) (nI (nv + na)) (nI (nv + na + 3 * np)) sl bo (nI c) pt iS fc rS cT (nI d) (nI T) od jo loB hiB ki fa fb bf ch bs ps pb pp wS wT sB tL ip me eS oC oL oV dC dT dK co cP cR sE eV) (fun yV post m => wY_execute_97 post (nI run) m (nI s) (nI n) (nI nv) (nI na) (nI np) (nI (nv + na)) (nI (nv + na + 3 * np)) sl iS rS yC 0 bo (nI c) (nI d) (nI a) (nI T) od yB yL (gl 96 ip me) ki fa fb yV eS oC dC yK cP cR oL oV dT dK) := by
  have ivr : vp_in (nI run) 2 := vp_in_nI hrun (by decide)
  have er : (nI run).toNatClampNeg = run := nI_clamp (by omega)
  have frs := mc_frs I
  have HX' := HX
  obtain ⟨⟨hn, hnv, hna, hnp, hc⟩, C, hF, hk, hfa, hfb, hH, hsE⟩ := HX
  obtain ⟨ha, h8, hd, hT, hes, hoe, hfr, hck, hcT, hco, hskS⟩ := I
  have hl : (ma_L K ck d a).length ≤ 448 := ma_Ll (yK := yK) C hc hK hd ha h8 hck
  have elt := pg_enlt C ha
  obtain ⟨h, hh⟩ : ∃ h, h = (ma_L K ck d a).length := ⟨_, rfl⟩
  rw [← hh] at hl hco
  rw [show (nI a :: ma_L K ck d a).length = h + 1 from by rw [hh]; rfl] at hcT
  obtain ⟨v, hV⟩ := ma_Vex (fA := fA) (fa := fa) (nv := nv) C me run d cP
  obtain ⟨o, e, o1, o2, o3, o4, o5⟩ := hoe
  have hoe : ∃ o e, o ≤ 16 ∧ oC run = nI o ∧ e + T ≤ 200 ∧ dC run = nI e ∧ ∀ i, i < o → ∃ l, l < n ∧ oL (run * 16 + i) = nI l := ⟨o, e, o1, o2, o3, o4, o5⟩
  have q := ih T d a ck (ma_L K ck d a) (nI h) 1 (ma_st me (run * 48 + (nv + fA a) * 4) (v (a + 1)) (v (pg_en kd c (a + 1)))) eS oC oL oV dC dT dK co cP cR yK (x3 + 1) (s + 1) ⟨ha, h8, hd, hT, hes, hoe, hfr, hck, by rw [hh], hskS⟩ (Or.inr ⟨rfl, rfl, by omega⟩) (by omega) (by omega)
  refine mc_step q (fun eV post m hw => ?_) (fun yV post m hw => ?_)
  · refine br_f (nI_ge (b := 65536) (by omega) (by decide)) (And.intro ivr ?_)
    rw [er, hes, hcT]
    refine br_t rfl (br_f (nI_ne0 (by omega) (by omega)) (nm_r (nI_pred h) (And.intro (vp_in_nI (by omega) (by decide)) ?_)))
    rw [nI_clamp (n := h) (by omega), hco]
    refine nm_e (br_t (nI_pos' (by omega)) ?_)
    refine xw_es HX' ha (fun w => by omega) (fun w => by omega) (fun _ => ?_) (fun w => by omega) (fun w => by omega) (fun w => by omega) (fun w => by omega) (fun w => by omega) h8
    exact xw_store HX' hrun hd hV ha z (fun eV => nm_r (nI_1 x3) (hw eV))
  · refine br_f (nI_ge (b := 200000) (by omega) (by decide)) (And.intro ivr ?_)
    rw [er, hes]
    refine br_t rfl (br_t rfl ?_)
    exact yw_en2 HY ha z hrun hd hV o4 hes (fun yV => nm_r (nI_1 s) (hw yV))
end
/-! the lockstep: a statement begins (SEQ) -/
section
variable {n nv na np c : Nat} {sl bo pt iS fc rS cT aC tk : Int32} {od jo loB hiB ki fa fb bf ch bs ps pb pp wS wT sB tL ip me eS oC oL oV dC dT dK co cP cR sE eV : Nat → Int32} {yC yF yD yA yT : Int32} {yB yL yE yV yK : Nat → Int32}
variable {kd fA fB : Nat → Nat} {K : Nat → List Nat} {P : Nat → Nat} {run : Nat} {A : Nat → Prop}
theorem mc_e3 (HX : mx_H kd fA fB n nv na np c ki fa fb bf ch bs sE) (HY : my_H kd fA fB n nv na np c ki fa fb) (hK : ma_K kd np c K P) (hrun : run < 2) {F : Nat} (ih : mc_cl n nv na np c sl bo pt iS fc rS od jo loB hiB ki fa fb bf ch bs ps pb pp wS wT sB tL ip sE yC yB yL kd K P run A F) {T d a x3 s : Nat} {ck : Nat → Nat} (I : mc_I kd n c A run T d a ck (nI a :: ma_L K ck d a) cT eS oC oL dC co yK)
    (hp : 3 * (pg_en kd c a - a) + P a + ma_U P ck d + 200 * T ≤ F + 1) (hx : x3 + (F + 1) + 1 < 65536) (hs : s + (F + 1) + 1 < 200000) (z : kd a = 3) :
    mc_o n nv na np c sl bo pt iS fc rS od jo loB hiB ki fa fb bf ch bs ps pb pp wS wT sB tL ip sE yC yB yL run A (F + 1 + 1) (fun eV post m => wX_execute_87 post (nI run) m (nI x3) (nI n) (nI nv) (nI na) (nI np) (nI (nv + na)) (nI (nv + na + 3 * np)) sl bo (nI c) pt iS fc rS cT (nI d) (nI T) od jo loB hiB ki fa fb bf ch bs ps pb pp wS wT sB tL ip me eS oC oL oV dC dT dK co cP cR sE eV) (fun yV post m => wY_execute_97 post (nI run) m (nI s) (nI n) (nI nv) (nI na) (nI np) (nI (nv + na)) (nI (nv + na + 3 * np)) sl iS rS yC 0 bo (nI c) (nI d) (nI a) (nI T) od yB yL (gl 96 ip me) ki fa fb yV eS oC dC yK cP cR oL oV dT dK) := by
  have ivr : vp_in (nI run) 2 := vp_in_nI hrun (by decide)
  have er : (nI run).toNatClampNeg = run := nI_clamp (by omega)
  have frs := mc_frs I
  have HX' := HX
  obtain ⟨⟨hn, hnv, hna, hnp, hc⟩, C, hF, hk, hfa, hfb, hH, hsE⟩ := HX
  obtain ⟨ha, h8, hd, hT, hes, hoe, hfr, hck, hcT, hco, hskS⟩ := I
  have hl : (ma_L K ck d a).length ≤ 448 := ma_Ll (yK := yK) C hc hK hd ha h8 hck
  have elt := pg_enlt C ha
  obtain ⟨h, hh⟩ : ∃ h, h = (ma_L K ck d a).length := ⟨_, rfl⟩
  rw [← hh] at hl hco
  rw [show (nI a :: ma_L K ck d a).length = h + 1 from by rw [hh]; rfl] at hcT
  obtain ⟨v, hV⟩ := ma_Vex (fA := fA) (fa := fa) (nv := nv) C me run d cP
  obtain ⟨o, e, o1, o2, o3, o4, o5⟩ := hoe
  have hoe : ∃ o e, o ≤ 16 ∧ oC run = nI o ∧ e + T ≤ 200 ∧ dC run = nI e ∧ ∀ i, i < o → ∃ l, l < n ∧ oL (run * 16 + i) = nI l := ⟨o, e, o1, o2, o3, o4, o5⟩
  obtain ⟨g1, g2, g3, g4, g5, g6, g7, g8⟩ := pg_k3 C ha z
  obtain ⟨c3, c4⟩ := xi_c1 hH C ha (by rw [z]; decide)
  obtain ⟨l1, l2⟩ := (((hK _ g1).2 a 0 g7).1 z).1 rfl
  have elt2 := pg_enlt C g1
  have elt3 := pg_enlt C g4
  have eL : ma_L K ck d (a + 1) = nI (pg_en kd c (a + 1)) :: ma_L K ck d a := by unfold ma_L; rw [l1]; rfl
  have sk2 : ma_sk (upd (upd co h (nI (pg_en kd c (a + 1)))) (h + 1) (nI (a + 1))) (nI (a + 1) :: ma_L K ck d (a + 1)) := by
    rw [eL]
    have s1 : ma_sk (upd co h (nI (pg_en kd c (a + 1)))) (nI (pg_en kd c (a + 1)) :: ma_L K ck d a) := by rw [hh]; exact ma_skp hskS
    have s2 := ma_skp (x := nI (a + 1)) s1
    rw [show (nI (pg_en kd c (a + 1)) :: ma_L K ck d a).length = h + 1 from by rw [hh]; rfl] at s2
    exact s2
  have q := ih T d (a + 1) ck (nI (a + 1) :: ma_L K ck d (a + 1)) (nI (h + 1 + 1)) 0 me eS oC oL oV dC dT dK (upd (upd co h (nI (pg_en kd c (a + 1)))) (h + 1) (nI (a + 1))) cP cR yK (x3 + 1) (s + 1) ⟨g1, g2, hd, hT, hes, hoe, hfr, hck, by rw [eL, hh]; rfl, sk2⟩ (Or.inl ⟨rfl, rfl, by omega⟩) (by omega) (by omega)
  refine mc_step q (fun eV post m hw => ?_) (fun yV post m hw => ?_)
  · refine br_f (nI_ge (b := 65536) (by omega) (by decide)) (And.intro ivr ?_)
    rw [er, hes, hcT]
    refine br_t rfl (br_f (nI_ne0 (by omega) (by omega)) (nm_r (nI_pred h) (And.intro (vp_in_nI (by omega) (by decide)) ?_)))
    rw [nI_clamp (n := h) (by omega), hco]
    refine nm_e (br_t (nI_pos' (by omega)) ?_)
    refine xw_es HX' ha (fun w => by omega) (fun w => by omega) (fun w => by omega) (fun _ => ?_) (fun w => by omega) (fun w => by omega) (fun w => by omega) (fun w => by omega) h8
    rw [bz_31, nI_clamp (n := 3 * a + 1) (by omega), c3]
    exact And.intro (vp_in_nI (by omega) (by decide)) (xw_pc (by omega) (xw_pc (by omega) (nm_r (nI_1 x3) (hw eV))))
  · refine br_f (nI_ge (b := 200000) (by omega) (by decide)) (And.intro ivr ?_)
    rw [er, hes]
    refine br_t rfl (br_t rfl ?_)
    exact yw_en0 (d := d) HY ha (Or.inr z) hrun o4 hes (fun w => by omega) (fun _ => nm_r (nI_1 s) (hw yV))
end
/-! the lockstep: a statement begins (RESULT) -/
section
variable {n nv na np c : Nat} {sl bo pt iS fc rS cT aC tk : Int32} {od jo loB hiB ki fa fb bf ch bs ps pb pp wS wT sB tL ip me eS oC oL oV dC dT dK co cP cR sE eV : Nat → Int32} {yC yF yD yA yT : Int32} {yB yL yE yV yK : Nat → Int32}
variable {kd fA fB : Nat → Nat} {K : Nat → List Nat} {P : Nat → Nat} {run : Nat} {A : Nat → Prop}
theorem mc_e7 (HX : mx_H kd fA fB n nv na np c ki fa fb bf ch bs sE) (HY : my_H kd fA fB n nv na np c ki fa fb) (hK : ma_K kd np c K P) (hrun : run < 2) {F : Nat} (ih : mc_cl n nv na np c sl bo pt iS fc rS od jo loB hiB ki fa fb bf ch bs ps pb pp wS wT sB tL ip sE yC yB yL kd K P run A F) {T d a x3 s : Nat} {ck : Nat → Nat} (I : mc_I kd n c A run T d a ck (nI a :: ma_L K ck d a) cT eS oC oL dC co yK)
    (hp : 3 * (pg_en kd c a - a) + P a + ma_U P ck d + 200 * T ≤ F + 1) (hx : x3 + (F + 1) + 1 < 65536) (hs : s + (F + 1) + 1 < 200000) (z : kd a = 7) :
    mc_o n nv na np c sl bo pt iS fc rS od jo loB hiB ki fa fb bf ch bs ps pb pp wS wT sB tL ip sE yC yB yL run A (F + 1 + 1) (fun eV post m => wX_execute_87 post (nI run) m (nI x3) (nI n) (nI nv) (nI na) (nI np) (nI (nv + na)) (nI (nv + na + 3 * np)) sl bo (nI c) pt iS fc rS cT (nI d) (nI T) od jo loB hiB ki fa fb bf ch bs ps pb pp wS wT sB tL ip me eS oC oL oV dC dT dK co cP cR sE eV) (fun yV post m => wY_execute_97 post (nI run) m (nI s) (nI n) (nI nv) (nI na) (nI np) (nI (nv + na)) (nI (nv + na + 3 * np)) sl iS rS yC 0 bo (nI c) (nI d) (nI a) (nI T) od yB yL (gl 96 ip me) ki fa fb yV eS oC dC yK cP cR oL oV dT dK) := by
  have ivr : vp_in (nI run) 2 := vp_in_nI hrun (by decide)
  have er : (nI run).toNatClampNeg = run := nI_clamp (by omega)
  have frs := mc_frs I
  have HX' := HX
  obtain ⟨⟨hn, hnv, hna, hnp, hc⟩, C, hF, hk, hfa, hfb, hH, hsE⟩ := HX
  obtain ⟨ha, h8, hd, hT, hes, hoe, hfr, hck, hcT, hco, hskS⟩ := I
  have hl : (ma_L K ck d a).length ≤ 448 := ma_Ll (yK := yK) C hc hK hd ha h8 hck
  have elt := pg_enlt C ha
  obtain ⟨h, hh⟩ : ∃ h, h = (ma_L K ck d a).length := ⟨_, rfl⟩
  rw [← hh] at hl hco
  rw [show (nI a :: ma_L K ck d a).length = h + 1 from by rw [hh]; rfl] at hcT
  obtain ⟨v, hV⟩ := ma_Vex (fA := fA) (fa := fa) (nv := nv) C me run d cP
  obtain ⟨o, e, o1, o2, o3, o4, o5⟩ := hoe
  have hoe : ∃ o e, o ≤ 16 ∧ oC run = nI o ∧ e + T ≤ 200 ∧ dC run = nI e ∧ ∀ i, i < o → ∃ l, l < n ∧ oL (run * 16 + i) = nI l := ⟨o, e, o1, o2, o3, o4, o5⟩
  obtain ⟨a1, a2, a3⟩ := pg_k1 C ha (by omega)
  by_cases hd0 : d = 0
  · subst hd0
    have q := ih T 0 a ck (ma_L K ck 0 a) (nI h) 1 me eS oC oL oV dC dT dK co cP cR yK (x3 + 1) (s + 1) ⟨ha, h8, hd, hT, hes, hoe, hfr, hck, by rw [hh], hskS⟩ (Or.inr ⟨rfl, rfl, by omega⟩) (by omega) (by omega)
    refine mc_step q (fun eV post m hw => ?_) (fun yV post m hw => ?_)
    · refine br_f (nI_ge (b := 65536) (by omega) (by decide)) (And.intro ivr ?_)
      rw [er, hes, hcT]
      refine br_t rfl (br_f (nI_ne0 (by omega) (by omega)) (nm_r (nI_pred h) (And.intro (vp_in_nI (by omega) (by decide)) ?_)))
      rw [nI_clamp (n := h) (by omega), hco]
      refine nm_e (br_t (nI_pos' (by omega)) ?_)
      refine xw_es HX' ha (fun w => by omega) (fun w => by omega) (fun w => by omega) (fun w => by omega) (fun w => by omega) (fun w => by omega) (fun _ => ?_) (fun w => by omega) h8
      exact br_t (by decide) (nm_r (nI_1 x3) (hw eV))
    · refine br_f (nI_ge (b := 200000) (by omega) (by decide)) (And.intro ivr ?_)
      rw [er, hes]
      refine br_t rfl (br_t rfl ?_)
      exact yw_en7 HY ha z hrun hd hV o4 hes (fun yV _ => nm_r (nI_1 s) (hw yV)) (fun _ w => by omega)
  · have q := ih T d a ck (ma_L K ck d a) (nI h) 1 me eS oC oL oV dC dT dK co cP (upd cR (d - 1) (v (a + 1))) yK (x3 + 1) (s + 1) ⟨ha, h8, hd, hT, hes, hoe, hfr, hck, by rw [hh], hskS⟩ (Or.inr ⟨rfl, rfl, by omega⟩) (by omega) (by omega)
    refine mc_step q (fun eV post m hw => ?_) (fun yV post m hw => ?_)
    · refine br_f (nI_ge (b := 65536) (by omega) (by decide)) (And.intro ivr ?_)
      rw [er, hes, hcT]
      refine br_t rfl (br_f (nI_ne0 (by omega) (by omega)) (nm_r (nI_pred h) (And.intro (vp_in_nI (by omega) (by decide)) ?_)))
      rw [nI_clamp (n := h) (by omega), hco]
      refine nm_e (br_t (nI_pos' (by omega)) ?_)
      refine xw_es HX' ha (fun w => by omega) (fun w => by omega) (fun w => by omega) (fun w => by omega) (fun w => by omega) (fun w => by omega) (fun _ => ?_) (fun w => by omega) h8
      refine br_f (nI_nle (by omega) (by omega)) ?_
      refine xw_eval HX' hrun hd hV a1 a2 (fun eV => ?_) rfl
      show vp_in (nI d - 1) 6 ∧ _
      rw [bz_s1 (by omega), nI_clamp (n := d - 1) (by omega)]
      exact And.intro (vp_in_nI (by omega) (by decide)) (nm_e (nm_r (nI_1 x3) (hw eV)))
    · refine br_f (nI_ge (b := 200000) (by omega) (by decide)) (And.intro ivr ?_)
      rw [er, hes]
      refine br_t rfl (br_t rfl ?_)
      exact yw_en7 HY ha z hrun hd hV o4 hes (fun _ w => absurd w hd0) (fun yV _ => nm_r (nI_1 s) (hw yV))
end
end
section
/-! the lockstep: a statement begins (OUT) -/
section
variable {n nv na np c : Nat} {sl bo pt iS fc rS cT aC tk : Int32} {od jo loB hiB ki fa fb bf ch bs ps pb pp wS wT sB tL ip me eS oC oL oV dC dT dK co cP cR sE eV : Nat → Int32} {yC yF yD yA yT : Int32} {yB yL yE yV yK : Nat → Int32}
variable {kd fA fB : Nat → Nat} {K : Nat → List Nat} {P : Nat → Nat} {run : Nat} {A : Nat → Prop}
theorem mc_e8 (HX : mx_H kd fA fB n nv na np c ki fa fb bf ch bs sE) (HY : my_H kd fA fB n nv na np c ki fa fb) (hK : ma_K kd np c K P) (hrun : run < 2) {F : Nat} (ih : mc_cl n nv na np c sl bo pt iS fc rS od jo loB hiB ki fa fb bf ch bs ps pb pp wS wT sB tL ip sE yC yB yL kd K P run A F) {T d a x3 s : Nat} {ck : Nat → Nat} (I : mc_I kd n c A run T d a ck (nI a :: ma_L K ck d a) cT eS oC oL dC co yK)
    (hp : 3 * (pg_en kd c a - a) + P a + ma_U P ck d + 200 * T ≤ F + 1) (hx : x3 + (F + 1) + 1 < 65536) (hs : s + (F + 1) + 1 < 200000) (z : kd a = 8) :
    mc_o n nv na np c sl bo pt iS fc rS od jo loB hiB ki fa fb bf ch bs ps pb pp wS wT sB tL ip sE yC yB yL run A (F + 1 + 1) (fun eV post m => wX_execute_87 post (nI run) m (nI x3) (nI n) (nI nv) (nI na) (nI np) (nI (nv + na)) (nI (nv + na + 3 * np)) sl bo (nI c) pt iS fc rS cT (nI d) (nI T) od jo loB hiB ki fa fb bf ch bs ps pb pp wS wT sB tL ip me eS oC oL oV dC dT dK co cP cR sE eV) (fun yV post m => wY_execute_97 post (nI run) m (nI s) (nI n) (nI nv) (nI na) (nI np) (nI (nv + na)) (nI (nv + na + 3 * np)) sl iS rS yC 0 bo (nI c) (nI d) (nI a) (nI T) od yB yL (gl 96 ip me) ki fa fb yV eS oC dC yK cP cR oL oV dT dK) := by
  have ivr : vp_in (nI run) 2 := vp_in_nI hrun (by decide)
  have er : (nI run).toNatClampNeg = run := nI_clamp (by omega)
  have frs := mc_frs I
  have HX' := HX
  obtain ⟨⟨hn, hnv, hna, hnp, hc⟩, C, hF, hk, hfa, hfb, hH, hsE⟩ := HX
  obtain ⟨ha, h8, hd, hT, hes, hoe, hfr, hck, hcT, hco, hskS⟩ := I
  have hl : (ma_L K ck d a).length ≤ 448 := ma_Ll (yK := yK) C hc hK hd ha h8 hck
  have elt := pg_enlt C ha
  obtain ⟨h, hh⟩ : ∃ h, h = (ma_L K ck d a).length := ⟨_, rfl⟩
  rw [← hh] at hl hco
  rw [show (nI a :: ma_L K ck d a).length = h + 1 from by rw [hh]; rfl] at hcT
  obtain ⟨v, hV⟩ := ma_Vex (fA := fA) (fa := fa) (nv := nv) C me run d cP
  obtain ⟨o, e, o1, o2, o3, o4, o5⟩ := hoe
  have hoe : ∃ o e, o ≤ 16 ∧ oC run = nI o ∧ e + T ≤ 200 ∧ dC run = nI e ∧ ∀ i, i < o → ∃ l, l < n ∧ oL (run * 16 + i) = nI l := ⟨o, e, o1, o2, o3, o4, o5⟩
  have fv := (hF a ha).2.2.2.2.1 (Or.inl z)
  by_cases ho16 : o = 16
  · have q := mc_end (n := n) (nv := nv) (na := na) (np := np) (c := c) (sl := sl) (bo := bo) (pt := pt) (iS := iS) (fc := fc) (rS := rS) (od := od) (jo := jo) (loB := loB) (hiB := hiB) (ki := ki) (fa := fa) (fb := fb) (bf := bf) (ch := ch) (bs := bs) (ps := ps) (pb := pb) (pp := pp) (wS := wS) (wT := wT) (sB := sB) (tL := tL) (ip := ip) (sE := sE) (yC := yC) (yB := yB) (yL := yL) (me := me) (oC := oC) (oL := oL) (oV := oV) (dC := dC) (dT := dT) (dK := dK) (co := co) (cP := cP) (cR := cR) (yK := yK) (cT := nI h) (aC := nI d) (tk := nI T) (yF := 0) (yD := nI d) (yA := nI a) (yT := nI T) (eS := upd eS run 4) (x3 := x3 + 1) (s := s + 1) (A := A) hrun (by omega) (by omega) (by rw [pk_us]; decide) frs
    refine mc_mono (B := 0 + 1) (by omega) (mc_step q (fun eV post m hw => ?_) (fun yV post m hw => ?_))
    · refine br_f (nI_ge (b := 65536) (by omega) (by decide)) (And.intro ivr ?_)
      rw [er, hes, hcT]
      refine br_t rfl (br_f (nI_ne0 (by omega) (by omega)) (nm_r (nI_pred h) (And.intro (vp_in_nI (by omega) (by decide)) ?_)))
      rw [nI_clamp (n := h) (by omega), hco]
      refine nm_e (br_t (nI_pos' (by omega)) ?_)
      refine xw_es HX' ha (fun w => by omega) (fun w => by omega) (fun w => by omega) (fun w => by omega) (fun w => by omega) (fun w => by omega) (fun w => by omega) (fun _ => ?_) h8
      exact xw_out HX' hrun hd o1 hV ha z o2 (fun _ => nm_r (nI_1 x3) (hw eV)) (fun _ w => by omega)
    · refine br_f (nI_ge (b := 200000) (by omega) (by decide)) (And.intro ivr ?_)
      rw [er, hes]
      refine br_t rfl (br_t rfl ?_)
      exact yw_en8 HY ha z hrun hd o1 hV o4 o2 hes (fun yV _ => nm_r (nI_1 s) (hw yV)) (fun _ w => by omega)
  · have hoe' : ∃ o' e, o' ≤ 16 ∧ upd oC run (nI (o + 1)) run = nI o' ∧ e + T ≤ 200 ∧ dC run = nI e ∧ ∀ i, i < o' → ∃ l, l < n ∧ upd oL (run * 16 + o) (nI (fA a)) (run * 16 + i) = nI l := by
      refine ⟨o + 1, e, by omega, pk_us, o3, o4, fun i hi => ?_⟩
      by_cases w : i = o
      · subst w; exact ⟨fA a, fv, pk_us⟩
      · rw [pk_un (by omega)]; exact o5 i (by omega)
    have hfr' : ∀ r, r < 2 → r ≠ run → A r → mc_fr n (upd oC run (nI (o + 1))) (upd oL (run * 16 + o) (nI (fA a))) dC r := by
      intro r hr hne hA
      obtain ⟨o', e', q1, q2, q3, q4, q5⟩ := hfr r hr hne hA
      refine ⟨o', e', q1, by rw [pk_un hne]; exact q2, q3, q4, fun i hi => ?_⟩
      rw [pk_un (by omega)]; exact q5 i hi
    have q := ih T d a ck (ma_L K ck d a) (nI h) 1 me eS (upd oC run (nI (o + 1))) (upd oL (run * 16 + o) (nI (fA a))) (upd oV (run * 16 + o) (v (a + 1))) dC dT dK co cP cR yK (x3 + 1) (s + 1) ⟨ha, h8, hd, hT, hes, hoe', hfr', hck, by rw [hh], hskS⟩ (Or.inr ⟨rfl, rfl, by omega⟩) (by omega) (by omega)
    refine mc_step q (fun eV post m hw => ?_) (fun yV post m hw => ?_)
    · refine br_f (nI_ge (b := 65536) (by omega) (by decide)) (And.intro ivr ?_)
      rw [er, hes, hcT]
      refine br_t rfl (br_f (nI_ne0 (by omega) (by omega)) (nm_r (nI_pred h) (And.intro (vp_in_nI (by omega) (by decide)) ?_)))
      rw [nI_clamp (n := h) (by omega), hco]
      refine nm_e (br_t (nI_pos' (by omega)) ?_)
      refine xw_es HX' ha (fun w => by omega) (fun w => by omega) (fun w => by omega) (fun w => by omega) (fun w => by omega) (fun w => by omega) (fun w => by omega) (fun _ => ?_) h8
      exact xw_out HX' hrun hd o1 hV ha z o2 (fun w => absurd w ho16) (fun eV _ => nm_r (nI_1 x3) (hw eV))
    · refine br_f (nI_ge (b := 200000) (by omega) (by decide)) (And.intro ivr ?_)
      rw [er, hes]
      refine br_t rfl (br_t rfl ?_)
      exact yw_en8 HY ha z hrun hd o1 hV o4 o2 hes (fun _ w => absurd w ho16) (fun yV _ => nm_r (nI_1 s) (hw yV))
end
/-! the lockstep: a statement begins (CALL) -/
section
variable {n nv na np c : Nat} {sl bo pt iS fc rS cT aC tk : Int32} {od jo loB hiB ki fa fb bf ch bs ps pb pp wS wT sB tL ip me eS oC oL oV dC dT dK co cP cR sE eV : Nat → Int32} {yC yF yD yA yT : Int32} {yB yL yE yV yK : Nat → Int32}
variable {kd fA fB : Nat → Nat} {K : Nat → List Nat} {P : Nat → Nat} {run : Nat} {A : Nat → Prop}
theorem mc_e6 (HX : mx_H kd fA fB n nv na np c ki fa fb bf ch bs sE) (HY : my_H kd fA fB n nv na np c ki fa fb) (hK : ma_K kd np c K P) (hrun : run < 2) {F : Nat} (ih : mc_cl n nv na np c sl bo pt iS fc rS od jo loB hiB ki fa fb bf ch bs ps pb pp wS wT sB tL ip sE yC yB yL kd K P run A F) {T d a x3 s : Nat} {ck : Nat → Nat} (I : mc_I kd n c A run T d a ck (nI a :: ma_L K ck d a) cT eS oC oL dC co yK)
    (hp : 3 * (pg_en kd c a - a) + P a + ma_U P ck d + 200 * T ≤ F + 1) (hx : x3 + (F + 1) + 1 < 65536) (hs : s + (F + 1) + 1 < 200000) (z : kd a = 6) :
    mc_o n nv na np c sl bo pt iS fc rS od jo loB hiB ki fa fb bf ch bs ps pb pp wS wT sB tL ip sE yC yB yL run A (F + 1 + 1) (fun eV post m => wX_execute_87 post (nI run) m (nI x3) (nI n) (nI nv) (nI na) (nI np) (nI (nv + na)) (nI (nv + na + 3 * np)) sl bo (nI c) pt iS fc rS cT (nI d) (nI T) od jo loB hiB ki fa fb bf ch bs ps pb pp wS wT sB tL ip me eS oC oL oV dC dT dK co cP cR sE eV) (fun yV post m => wY_execute_97 post (nI run) m (nI s) (nI n) (nI nv) (nI na) (nI np) (nI (nv + na)) (nI (nv + na + 3 * np)) sl iS rS yC 0 bo (nI c) (nI d) (nI a) (nI T) od yB yL (gl 96 ip me) ki fa fb yV eS oC dC yK cP cR oL oV dT dK) := by
  have ivr : vp_in (nI run) 2 := vp_in_nI hrun (by decide)
  have er : (nI run).toNatClampNeg = run := nI_clamp (by omega)
  have frs := mc_frs I
  have HX' := HX
  obtain ⟨⟨hn, hnv, hna, hnp, hc⟩, C, hF, hk, hfa, hfb, hH, hsE⟩ := HX
  obtain ⟨ha, h8, hd, hT, hes, hoe, hfr, hck, hcT, hco, hskS⟩ := I
  have hl : (ma_L K ck d a).length ≤ 448 := ma_Ll (yK := yK) C hc hK hd ha h8 hck
  have elt := pg_enlt C ha
  obtain ⟨h, hh⟩ : ∃ h, h = (ma_L K ck d a).length := ⟨_, rfl⟩
  rw [← hh] at hl hco
  rw [show (nI a :: ma_L K ck d a).length = h + 1 from by rw [hh]; rfl] at hcT
  obtain ⟨v, hV⟩ := ma_Vex (fA := fA) (fa := fa) (nv := nv) C me run d cP
  obtain ⟨o, e, o1, o2, o3, o4, o5⟩ := hoe
  have hoe : ∃ o e, o ≤ 16 ∧ oC run = nI o ∧ e + T ≤ 200 ∧ dC run = nI e ∧ ∀ i, i < o → ∃ l, l < n ∧ oL (run * 16 + i) = nI l := ⟨o, e, o1, o2, o3, o4, o5⟩
  have fv := ((hF a ha).2.2.2.1 z).1
  by_cases hT0 : T = 0
  · have q := mc_end (n := n) (nv := nv) (na := na) (np := np) (c := c) (sl := sl) (bo := bo) (pt := pt) (iS := iS) (fc := fc) (rS := rS) (od := od) (jo := jo) (loB := loB) (hiB := hiB) (ki := ki) (fa := fa) (fb := fb) (bf := bf) (ch := ch) (bs := bs) (ps := ps) (pb := pb) (pp := pp) (wS := wS) (wT := wT) (sB := sB) (tL := tL) (ip := ip) (sE := sE) (yC := yC) (yB := yB) (yL := yL) (me := me) (oC := oC) (oL := oL) (oV := oV) (dC := dC) (dT := dT) (dK := dK) (co := co) (cP := cP) (cR := cR) (yK := yK) (cT := nI h) (aC := nI d) (tk := nI T) (yF := 0) (yD := nI d) (yA := nI a) (yT := nI T) (eS := upd eS run 2) (x3 := x3 + 1) (s := s + 1) (A := A) hrun (by omega) (by omega) (by rw [pk_us]; decide) frs
    refine mc_mono (B := 0 + 1) (by omega) (mc_step q (fun eV post m hw => ?_) (fun yV post m hw => ?_))
    · refine br_f (nI_ge (b := 65536) (by omega) (by decide)) (And.intro ivr ?_)
      rw [er, hes, hcT]
      refine br_t rfl (br_f (nI_ne0 (by omega) (by omega)) (nm_r (nI_pred h) (And.intro (vp_in_nI (by omega) (by decide)) ?_)))
      rw [nI_clamp (n := h) (by omega), hco]
      refine nm_e (br_t (nI_pos' (by omega)) ?_)
      refine xw_es HX' ha (fun w => by omega) (fun w => by omega) (fun w => by omega) (fun w => by omega) (fun w => by omega) (fun _ => ?_) (fun w => by omega) (fun w => by omega) h8
      exact xw_call HX' hrun hd hT (by omega) hV ha z (fun _ => nm_r (nI_1 x3) (hw eV)) (fun w => by omega) (fun _ w => by omega)
    · refine br_f (nI_ge (b := 200000) (by omega) (by decide)) (And.intro ivr ?_)
      rw [er, hes]
      refine br_t rfl (br_t rfl ?_)
      exact yw_en6 HY ha z hrun hd hT hV o4 hes (fun yV _ => nm_r (nI_1 s) (hw yV)) (fun _ w => by omega) (fun _ w => by omega)
  by_cases hd6 : d = 6
  · have q := mc_end (n := n) (nv := nv) (na := na) (np := np) (c := c) (sl := sl) (bo := bo) (pt := pt) (iS := iS) (fc := fc) (rS := rS) (od := od) (jo := jo) (loB := loB) (hiB := hiB) (ki := ki) (fa := fa) (fb := fb) (bf := bf) (ch := ch) (bs := bs) (ps := ps) (pb := pb) (pp := pp) (wS := wS) (wT := wT) (sB := sB) (tL := tL) (ip := ip) (sE := sE) (yC := yC) (yB := yB) (yL := yL) (me := me) (oC := oC) (oL := oL) (oV := oV) (dC := dC) (dT := dT) (dK := dK) (co := co) (cP := cP) (cR := cR) (yK := yK) (cT := nI h) (aC := nI d) (tk := nI (T - 1)) (yF := 0) (yD := nI d) (yA := nI a) (yT := nI T) (eS := upd eS run 3) (x3 := x3 + 1) (s := s + 1) (A := A) hrun (by omega) (by omega) (by rw [pk_us]; decide) frs
    refine mc_mono (B := 0 + 1) (by omega) (mc_step q (fun eV post m hw => ?_) (fun yV post m hw => ?_))
    · refine br_f (nI_ge (b := 65536) (by omega) (by decide)) (And.intro ivr ?_)
      rw [er, hes, hcT]
      refine br_t rfl (br_f (nI_ne0 (by omega) (by omega)) (nm_r (nI_pred h) (And.intro (vp_in_nI (by omega) (by decide)) ?_)))
      rw [nI_clamp (n := h) (by omega), hco]
      refine nm_e (br_t (nI_pos' (by omega)) ?_)
      refine xw_es HX' ha (fun w => by omega) (fun w => by omega) (fun w => by omega) (fun w => by omega) (fun w => by omega) (fun _ => ?_) (fun w => by omega) (fun w => by omega) h8
      exact xw_call HX' hrun hd hT (by omega) hV ha z (fun w => by omega) (fun _ _ => nm_r (nI_1 x3) (hw eV)) (fun _ _ w => by omega)
    · refine br_f (nI_ge (b := 200000) (by omega) (by decide)) (And.intro ivr ?_)
      rw [er, hes]
      refine br_t rfl (br_t rfl ?_)
      exact yw_en6 HY ha z hrun hd hT hV o4 hes (fun _ w => by omega) (fun yV _ _ => nm_r (nI_1 s) (hw yV)) (fun _ _ w => by omega)
  obtain ⟨r1, r2, r3⟩ := pg_st_lt C.1 C.2.1 (b := fA a) (by omega)
  obtain ⟨l1, l2⟩ := (hK _ r1).1 r2
  have elt2 := pg_enlt C r1
  have cke : ∀ j, j < d → (fun j => if j = d then a else ck j) j = ck j := fun j hj => if_neg (by omega)
  have ckd : (fun j => if j = d then a else ck j) d = a := if_pos rfl
  have eU : ma_U P (fun j => if j = d then a else ck j) (d + 1) = P a + ma_U P ck d := by
    show P ((fun j => if j = d then a else ck j) d) + ma_U P (fun j => if j = d then a else ck j) d = _
    rw [ckd, ma_U_cong d cke]
  have eL : ma_L K (fun j => if j = d then a else ck j) (d + 1) (pg_st kd c (fA a)) = (-1 - nI a) :: ma_L K ck d a := by
    unfold ma_L
    rw [l1]
    show (-1 - nI ((fun j => if j = d then a else ck j) d)) :: ((K ((fun j => if j = d then a else ck j) d)).map nI ++ ma_S K (fun j => if j = d then a else ck j) d) = _
    rw [ckd, ma_S_cong d cke]
  have sk2 : ma_sk (upd (upd co h (-1 - nI a)) (h + 1) (nI (pg_st kd c (fA a)))) (nI (pg_st kd c (fA a)) :: ma_L K (fun j => if j = d then a else ck j) (d + 1) (pg_st kd c (fA a))) := by
    rw [eL]
    have s1 : ma_sk (upd co h (-1 - nI a)) ((-1 - nI a) :: ma_L K ck d a) := by rw [hh]; exact ma_skp hskS
    have s2 := ma_skp (x := nI (pg_st kd c (fA a))) s1
    rw [show ((-1 - nI a) :: ma_L K ck d a).length = h + 1 from by rw [hh]; rfl] at s2
    exact s2
  have hck' : ∀ j, j < d + 1 → (fun j => if j = d then a else ck j) j < c ∧ kd ((fun j => if j = d then a else ck j) j) = 6 ∧ upd yK d (nI a) j = nI ((fun j => if j = d then a else ck j) j) := by
    intro j hj
    by_cases w : j = d
    · subst w; rw [ckd, pk_us]; exact ⟨ha, z, rfl⟩
    · rw [cke j (by omega), pk_un w]; exact hck j (by omega)
  have q := ih (T - 1) (d + 1) (pg_st kd c (fA a)) (fun j => if j = d then a else ck j) (nI (pg_st kd c (fA a)) :: ma_L K (fun j => if j = d then a else ck j) (d + 1) (pg_st kd c (fA a))) (nI (h + 1 + 1)) 0 me eS oC oL oV dC dT dK (upd (upd co h (-1 - nI a)) (h + 1) (nI (pg_st kd c (fA a)))) (upd cP d (v (a + 1))) (upd cR d 0) (upd yK d (nI a)) (x3 + 1) (s + 1) ⟨r1, pg_rt8 C r1 r2, by omega, by omega, hes, ⟨o, e, o1, o2, by omega, o4, o5⟩, hfr, hck', by rw [eL, hh]; rfl, sk2⟩ (Or.inl ⟨rfl, rfl, by omega⟩) (by omega) (by omega)
  refine mc_step q (fun eV post m hw => ?_) (fun yV post m hw => ?_)
  · refine br_f (nI_ge (b := 65536) (by omega) (by decide)) (And.intro ivr ?_)
    rw [er, hes, hcT]
    refine br_t rfl (br_f (nI_ne0 (by omega) (by omega)) (nm_r (nI_pred h) (And.intro (vp_in_nI (by omega) (by decide)) ?_)))
    rw [nI_clamp (n := h) (by omega), hco]
    refine nm_e (br_t (nI_pos' (by omega)) ?_)
    refine xw_es HX' ha (fun w => by omega) (fun w => by omega) (fun w => by omega) (fun w => by omega) (fun w => by omega) (fun _ => ?_) (fun w => by omega) (fun w => by omega) h8
    exact xw_call HX' hrun hd hT (by omega) hV ha z (fun w => absurd w hT0) (fun _ w => absurd w hd6) (fun eV _ _ => nm_r (nI_1 x3) (hw eV))
  · refine br_f (nI_ge (b := 200000) (by omega) (by decide)) (And.intro ivr ?_)
    rw [er, hes]
    refine br_t rfl (br_t rfl ?_)
    exact yw_en6 HY ha z hrun hd hT hV o4 hes (fun _ w => absurd w hT0) (fun _ _ w => absurd w hd6) (fun yV _ _ => nm_r (nI_1 s) (hw yV))
end
end
section
/-! the lockstep: a statement begins (IF, WHILE) -/
section
variable {n nv na np c : Nat} {sl bo pt iS fc rS cT aC tk : Int32} {od jo loB hiB ki fa fb bf ch bs ps pb pp wS wT sB tL ip me eS oC oL oV dC dT dK co cP cR sE eV : Nat → Int32} {yC yF yD yA yT : Int32} {yB yL yE yV yK : Nat → Int32}
variable {kd fA fB : Nat → Nat} {K : Nat → List Nat} {P : Nat → Nat} {run : Nat} {A : Nat → Prop}
theorem mc_e45 (HX : mx_H kd fA fB n nv na np c ki fa fb bf ch bs sE) (HY : my_H kd fA fB n nv na np c ki fa fb) (hK : ma_K kd np c K P) (hrun : run < 2) {F : Nat} (ih : mc_cl n nv na np c sl bo pt iS fc rS od jo loB hiB ki fa fb bf ch bs ps pb pp wS wT sB tL ip sE yC yB yL kd K P run A F) {T d a x3 s : Nat} {ck : Nat → Nat} (I : mc_I kd n c A run T d a ck (nI a :: ma_L K ck d a) cT eS oC oL dC co yK)
    (hp : 3 * (pg_en kd c a - a) + P a + ma_U P ck d + 200 * T ≤ F + 1) (hx : x3 + (F + 1) + 1 < 65536) (hs : s + (F + 1) + 1 < 200000) (z : kd a = 4 ∨ kd a = 5) :
    mc_o n nv na np c sl bo pt iS fc rS od jo loB hiB ki fa fb bf ch bs ps pb pp wS wT sB tL ip sE yC yB yL run A (F + 1 + 1) (fun eV post m => wX_execute_87 post (nI run) m (nI x3) (nI n) (nI nv) (nI na) (nI np) (nI (nv + na)) (nI (nv + na + 3 * np)) sl bo (nI c) pt iS fc rS cT (nI d) (nI T) od jo loB hiB ki fa fb bf ch bs ps pb pp wS wT sB tL ip me eS oC oL oV dC dT dK co cP cR sE eV) (fun yV post m => wY_execute_97 post (nI run) m (nI s) (nI n) (nI nv) (nI na) (nI np) (nI (nv + na)) (nI (nv + na + 3 * np)) sl iS rS yC 0 bo (nI c) (nI d) (nI a) (nI T) od yB yL (gl 96 ip me) ki fa fb yV eS oC dC yK cP cR oL oV dT dK) := by
  have ivr : vp_in (nI run) 2 := vp_in_nI hrun (by decide)
  have er : (nI run).toNatClampNeg = run := nI_clamp (by omega)
  have frs := mc_frs I
  have HX' := HX
  obtain ⟨⟨hn, hnv, hna, hnp, hc⟩, C, hF, hk, hfa, hfb, hH, hsE⟩ := HX
  obtain ⟨ha, h8, hd, hT, hes, hoe, hfr, hck, hcT, hco, hskS⟩ := I
  have hl : (ma_L K ck d a).length ≤ 448 := ma_Ll (yK := yK) C hc hK hd ha h8 hck
  have elt := pg_enlt C ha
  obtain ⟨h, hh⟩ : ∃ h, h = (ma_L K ck d a).length := ⟨_, rfl⟩
  rw [← hh] at hl hco
  rw [show (nI a :: ma_L K ck d a).length = h + 1 from by rw [hh]; rfl] at hcT
  obtain ⟨v, hV⟩ := ma_Vex (fA := fA) (fa := fa) (nv := nv) C me run d cP
  obtain ⟨o, e, o1, o2, o3, o4, o5⟩ := hoe
  have hoe : ∃ o e, o ≤ 16 ∧ oC run = nI o ∧ e + T ≤ 200 ∧ dC run = nI e ∧ ∀ i, i < o → ∃ l, l < n ∧ oL (run * 16 + i) = nI l := ⟨o, e, o1, o2, o3, o4, o5⟩
  obtain ⟨a1, a2, a3, a4, a5, a6, a7, a8⟩ := pg_k5 C ha z
  have elt2 := pg_enlt C a4
  by_cases hT0 : T = 0
  · have q := mc_end (n := n) (nv := nv) (na := na) (np := np) (c := c) (sl := sl) (bo := bo) (pt := pt) (iS := iS) (fc := fc) (rS := rS) (od := od) (jo := jo) (loB := loB) (hiB := hiB) (ki := ki) (fa := fa) (fb := fb) (bf := bf) (ch := ch) (bs := bs) (ps := ps) (pb := pb) (pp := pp) (wS := wS) (wT := wT) (sB := sB) (tL := tL) (ip := ip) (sE := sE) (yC := yC) (yB := yB) (yL := yL) (me := me) (oC := oC) (oL := oL) (oV := oV) (dC := dC) (dT := dT) (dK := dK) (co := co) (cP := cP) (cR := cR) (yK := yK) (cT := nI h) (aC := nI d) (tk := nI T) (yF := 0) (yD := nI d) (yA := nI a) (yT := nI T) (eS := upd eS run 2) (x3 := x3 + 1) (s := s + 1) (A := A) hrun (by omega) (by omega) (by rw [pk_us]; decide) frs
    refine mc_mono (B := 0 + 1) (by omega) (mc_step q (fun eV post m hw => ?_) (fun yV post m hw => ?_))
    · refine br_f (nI_ge (b := 65536) (by omega) (by decide)) (And.intro ivr ?_)
      rw [er, hes, hcT]
      refine br_t rfl (br_f (nI_ne0 (by omega) (by omega)) (nm_r (nI_pred h) (And.intro (vp_in_nI (by omega) (by decide)) ?_)))
      rw [nI_clamp (n := h) (by omega), hco]
      refine nm_e (br_t (nI_pos' (by omega)) ?_)
      refine xw_es HX' ha (fun w => by omega) (fun w => by omega) (fun w => by omega) (fun w => by omega) (fun _ => ?_) (fun w => by omega) (fun w => by omega) (fun w => by omega) h8
      exact xw_test HX' hrun hd hT (by omega) hV ha z o4 o3 (fun _ => nm_r (nI_1 x3) (hw eV)) (fun _ _ w => by omega)
    · refine br_f (nI_ge (b := 200000) (by omega) (by decide)) (And.intro ivr ?_)
      rw [er, hes]
      refine br_t rfl (br_t rfl ?_)
      exact yw_en45 HY ha z hrun hd hT hV o4 o3 hes (fun yV _ => nm_r (nI_1 s) (hw yV)) (fun _ w => by omega)
  have hfr' : ∀ r, r < 2 → r ≠ run → A r → mc_fr n oC oL (upd dC run (nI (e + 1))) r := by
    intro r hr hne hA
    obtain ⟨o', e', q1, q2, q3, q4, q5⟩ := hfr r hr hne hA
    exact ⟨o', e', q1, q2, q3, by rw [pk_un hne]; exact q4, q5⟩
  by_cases y : v (a + 1) = 0
  · rcases z with zk | zk
    · have z := zk
      obtain ⟨d1, d2, d3, d4, d5⟩ := pg_k4 C ha zk
      obtain ⟨l1, l2⟩ := ((hK _ d2).2 a 2 d4).2.1 zk
      have elt3 := pg_enlt C d2
      have z : kd a = 4 ∨ kd a = 5 := Or.inl zk
      have eL : ma_L K ck d (pg_en kd c (pg_en kd c (a + 1))) = ma_L K ck d a := by unfold ma_L; rw [l1]
      have sk2 : ma_sk (upd co h (nI (pg_en kd c (pg_en kd c (a + 1))))) (nI (pg_en kd c (pg_en kd c (a + 1))) :: ma_L K ck d (pg_en kd c (pg_en kd c (a + 1)))) := by rw [eL, hh]; exact ma_skp hskS
      have q := ih (T - 1) d (pg_en kd c (pg_en kd c (a + 1))) ck (nI (pg_en kd c (pg_en kd c (a + 1))) :: ma_L K ck d (pg_en kd c (pg_en kd c (a + 1)))) (nI (h + 1)) 0 me eS oC oL oV (upd dC run (nI (e + 1))) (upd dT (run * 200 + e) (nI a)) (upd dK (run * 200 + e) 0) (upd co h (nI (pg_en kd c (pg_en kd c (a + 1))))) cP cR yK (x3 + 1) (s + 1) ⟨d2, d3, hd, by omega, hes, ⟨o, e + 1, o1, o2, by omega, pk_us, o5⟩, hfr', hck, by rw [eL, hh]; rfl, sk2⟩ (Or.inl ⟨rfl, rfl, by omega⟩) (by omega) (by omega)
      refine mc_step q (fun eV post m hw => ?_) (fun yV post m hw => ?_)
      · refine br_f (nI_ge (b := 65536) (by omega) (by decide)) (And.intro ivr ?_)
        rw [er, hes, hcT]
        refine br_t rfl (br_f (nI_ne0 (by omega) (by omega)) (nm_r (nI_pred h) (And.intro (vp_in_nI (by omega) (by decide)) ?_)))
        rw [nI_clamp (n := h) (by omega), hco]
        refine nm_e (br_t (nI_pos' (by omega)) ?_)
        refine xw_es HX' ha (fun w => by omega) (fun w => by omega) (fun w => by omega) (fun w => by omega) (fun _ => ?_) (fun w => by omega) (fun w => by omega) (fun w => by omega) h8
        exact xw_test HX' hrun hd hT (by omega) hV ha z o4 o3 (fun w => absurd w hT0) (fun eV tk _ etk => ⟨(fun w1 w2 => absurd y w2), (fun _ _ => nm_r (nI_1 x3) (by rw [etk]; exact hw eV)), (fun w1 w2 => by omega), (fun w1 w2 => by omega)⟩)
      · refine br_f (nI_ge (b := 200000) (by omega) (by decide)) (And.intro ivr ?_)
        rw [er, hes]
        refine br_t rfl (br_t rfl ?_)
        exact yw_en45 HY ha z hrun hd hT hV o4 o3 hes (fun _ w => absurd w hT0) (fun yV _ => ⟨(fun w1 w2 => absurd y w2), (fun _ _ => nm_r (nI_1 s) (hw yV)), (fun w1 w2 => by omega), (fun w1 w2 => by omega)⟩)
    · have z : kd a = 4 ∨ kd a = 5 := Or.inr zk
      have q := ih (T - 1) d a ck (ma_L K ck d a) (nI h) 1 me eS oC oL oV (upd dC run (nI (e + 1))) (upd dT (run * 200 + e) (nI a)) (upd dK (run * 200 + e) 0) co cP cR yK (x3 + 1) (s + 1) ⟨ha, h8, hd, by omega, hes, ⟨o, e + 1, o1, o2, by omega, pk_us, o5⟩, hfr', hck, by rw [hh], hskS⟩ (Or.inr ⟨rfl, rfl, by omega⟩) (by omega) (by omega)
      refine mc_step q (fun eV post m hw => ?_) (fun yV post m hw => ?_)
      · refine br_f (nI_ge (b := 65536) (by omega) (by decide)) (And.intro ivr ?_)
        rw [er, hes, hcT]
        refine br_t rfl (br_f (nI_ne0 (by omega) (by omega)) (nm_r (nI_pred h) (And.intro (vp_in_nI (by omega) (by decide)) ?_)))
        rw [nI_clamp (n := h) (by omega), hco]
        refine nm_e (br_t (nI_pos' (by omega)) ?_)
        refine xw_es HX' ha (fun w => by omega) (fun w => by omega) (fun w => by omega) (fun w => by omega) (fun _ => ?_) (fun w => by omega) (fun w => by omega) (fun w => by omega) h8
        exact xw_test HX' hrun hd hT (by omega) hV ha z o4 o3 (fun w => absurd w hT0) (fun eV tk _ etk => ⟨(fun w1 w2 => by omega), (fun w1 w2 => by omega), (fun w1 w2 => absurd y w2), (fun _ _ => nm_r (nI_1 x3) (by rw [etk]; exact hw eV))⟩)
      · refine br_f (nI_ge (b := 200000) (by omega) (by decide)) (And.intro ivr ?_)
        rw [er, hes]
        refine br_t rfl (br_t rfl ?_)
        exact yw_en45 HY ha z hrun hd hT hV o4 o3 hes (fun _ w => absurd w hT0) (fun yV _ => ⟨(fun w1 w2 => by omega), (fun w1 w2 => by omega), (fun w1 w2 => absurd y w2), (fun _ _ => nm_r (nI_1 s) (hw yV))⟩)
  · rcases z with zk | zk
    · have z : kd a = 4 ∨ kd a = 5 := Or.inl zk
      obtain ⟨l1, l2⟩ := ((hK _ a4).2 a 1 a7).2.1 zk
      have eL : ma_L K ck d (pg_en kd c (a + 1)) = ma_L K ck d a := by unfold ma_L; rw [l1]
      have sk2 : ma_sk (upd co h (nI (pg_en kd c (a + 1)))) (nI (pg_en kd c (a + 1)) :: ma_L K ck d (pg_en kd c (a + 1))) := by rw [eL, hh]; exact ma_skp hskS
      have q := ih (T - 1) d (pg_en kd c (a + 1)) ck (nI (pg_en kd c (a + 1)) :: ma_L K ck d (pg_en kd c (a + 1))) (nI (h + 1)) 0 me eS oC oL oV (upd dC run (nI (e + 1))) (upd dT (run * 200 + e) (nI a)) (upd dK (run * 200 + e) 1) (upd co h (nI (pg_en kd c (a + 1)))) cP cR yK (x3 + 1) (s + 1) ⟨a4, a5, hd, by omega, hes, ⟨o, e + 1, o1, o2, by omega, pk_us, o5⟩, hfr', hck, by rw [eL, hh]; rfl, sk2⟩ (Or.inl ⟨rfl, rfl, by omega⟩) (by omega) (by omega)
      refine mc_step q (fun eV post m hw => ?_) (fun yV post m hw => ?_)
      · refine br_f (nI_ge (b := 65536) (by omega) (by decide)) (And.intro ivr ?_)
        rw [er, hes, hcT]
        refine br_t rfl (br_f (nI_ne0 (by omega) (by omega)) (nm_r (nI_pred h) (And.intro (vp_in_nI (by omega) (by decide)) ?_)))
        rw [nI_clamp (n := h) (by omega), hco]
        refine nm_e (br_t (nI_pos' (by omega)) ?_)
        refine xw_es HX' ha (fun w => by omega) (fun w => by omega) (fun w => by omega) (fun w => by omega) (fun _ => ?_) (fun w => by omega) (fun w => by omega) (fun w => by omega) h8
        exact xw_test HX' hrun hd hT (by omega) hV ha z o4 o3 (fun w => absurd w hT0) (fun eV tk _ etk => ⟨(fun _ _ => nm_r (nI_1 x3) (by rw [etk]; exact hw eV)), (fun w1 w2 => absurd w2 y), (fun w1 w2 => by omega), (fun w1 w2 => by omega)⟩)
      · refine br_f (nI_ge (b := 200000) (by omega) (by decide)) (And.intro ivr ?_)
        rw [er, hes]
        refine br_t rfl (br_t rfl ?_)
        exact yw_en45 HY ha z hrun hd hT hV o4 o3 hes (fun _ w => absurd w hT0) (fun yV _ => ⟨(fun _ _ => nm_r (nI_1 s) (hw yV)), (fun w1 w2 => absurd w2 y), (fun w1 w2 => by omega), (fun w1 w2 => by omega)⟩)
    · have z : kd a = 4 ∨ kd a = 5 := Or.inr zk
      obtain ⟨l1, l2⟩ := ((hK _ a4).2 a 1 a7).2.2 zk
      have ew := pg_k5w C ha zk
      have eL : ma_L K ck d (pg_en kd c (a + 1)) = nI a :: ma_L K ck d a := by unfold ma_L; rw [l1]; rfl
      have sk2 : ma_sk (upd (upd co h (nI a)) (h + 1) (nI (pg_en kd c (a + 1)))) (nI (pg_en kd c (a + 1)) :: ma_L K ck d (pg_en kd c (a + 1))) := by
        rw [eL]
        have s1 : ma_sk (upd co h (nI a)) (nI a :: ma_L K ck d a) := by rw [hh]; exact ma_skp hskS
        have s2 := ma_skp (x := nI (pg_en kd c (a + 1))) s1
        rw [show (nI a :: ma_L K ck d a).length = h + 1 from by rw [hh]; rfl] at s2
        exact s2
      have q := ih (T - 1) d (pg_en kd c (a + 1)) ck (nI (pg_en kd c (a + 1)) :: ma_L K ck d (pg_en kd c (a + 1))) (nI (h + 1 + 1)) 0 me eS oC oL oV (upd dC run (nI (e + 1))) (upd dT (run * 200 + e) (nI a)) (upd dK (run * 200 + e) 1) (upd (upd co h (nI a)) (h + 1) (nI (pg_en kd c (a + 1)))) cP cR yK (x3 + 1) (s + 1) ⟨a4, a5, hd, by omega, hes, ⟨o, e + 1, o1, o2, by omega, pk_us, o5⟩, hfr', hck, by rw [eL, hh]; rfl, sk2⟩ (Or.inl ⟨rfl, rfl, by omega⟩) (by omega) (by omega)
      refine mc_step q (fun eV post m hw => ?_) (fun yV post m hw => ?_)
      · refine br_f (nI_ge (b := 65536) (by omega) (by decide)) (And.intro ivr ?_)
        rw [er, hes, hcT]
        refine br_t rfl (br_f (nI_ne0 (by omega) (by omega)) (nm_r (nI_pred h) (And.intro (vp_in_nI (by omega) (by decide)) ?_)))
        rw [nI_clamp (n := h) (by omega), hco]
        refine nm_e (br_t (nI_pos' (by omega)) ?_)
        refine xw_es HX' ha (fun w => by omega) (fun w => by omega) (fun w => by omega) (fun w => by omega) (fun _ => ?_) (fun w => by omega) (fun w => by omega) (fun w => by omega) h8
        exact xw_test HX' hrun hd hT (by omega) hV ha z o4 o3 (fun w => absurd w hT0) (fun eV tk _ etk => ⟨(fun w1 w2 => by omega), (fun w1 w2 => by omega), (fun _ _ => nm_r (nI_1 x3) (by rw [etk]; exact hw eV)), (fun w1 w2 => absurd w2 y)⟩)
      · refine br_f (nI_ge (b := 200000) (by omega) (by decide)) (And.intro ivr ?_)
        rw [er, hes]
        refine br_t rfl (br_t rfl ?_)
        exact yw_en45 HY ha z hrun hd hT hV o4 o3 hes (fun _ w => absurd w hT0) (fun yV _ => ⟨(fun w1 w2 => by omega), (fun w1 w2 => by omega), (fun _ _ => nm_r (nI_1 s) (hw yV)), (fun w1 w2 => absurd w2 y)⟩)
end
section
variable {n nv na np c : Nat} {sl bo pt iS fc rS cT aC tk : Int32} {od jo loB hiB ki fa fb bf ch bs ps pb pp wS wT sB tL ip me eS oC oL oV dC dT dK co cP cR sE eV : Nat → Int32} {yC yF yD yA yT : Int32} {yB yL yE yV yK : Nat → Int32}
variable {kd fA fB : Nat → Nat} {K : Nat → List Nat} {P : Nat → Nat} {run : Nat} {A : Nat → Prop}
theorem mc_main (HX : mx_H kd fA fB n nv na np c ki fa fb bf ch bs sE) (HY : my_H kd fA fB n nv na np c ki fa fb) (hK : ma_K kd np c K P) (hrun : run < 2) : ∀ F, mc_cl n nv na np c sl bo pt iS fc rS od jo loB hiB ki fa fb bf ch bs ps pb pp wS wT sB tL ip sE yC yB yL kd K P run A F := by
  intro F
  induction F with
  | zero =>
    intro T d a ck L cT yF me eS oC oL oV dC dT dK co cP cR yK x3 s I p hx hs
    have := ma_P1 HX.2.1 hK I.1 I.2.1
    rcases p with ⟨_, _, p⟩ | ⟨_, _, p⟩ <;> omega
  | succ F ih =>
    intro T d a ck L cT yF me eS oC oL oV dC dT dK co cP cR yK x3 s I p hx hs
    rcases p with ⟨rfl, rfl, p⟩ | ⟨rfl, rfl, p⟩
    · have h8 := I.2.1
      have kk : kd a = 0 ∨ kd a = 1 ∨ kd a = 2 ∨ kd a = 3 ∨ (kd a = 4 ∨ kd a = 5) ∨ kd a = 6 ∨ kd a = 7 ∨ kd a = 8 := by omega
      rcases kk with z | z | z | z | z | z | z | z
      · exact mc_e0 HX HY hK hrun ih I p hx hs z
      · exact mc_e1 HX HY hK hrun ih I p hx hs z
      · exact mc_e2 HX HY hK hrun ih I p hx hs z
      · exact mc_e3 HX HY hK hrun ih I p hx hs z
      · exact mc_e45 HX HY hK hrun ih I p hx hs z
      · exact mc_e6 HX HY hK hrun ih I p hx hs z
      · exact mc_e7 HX HY hK hrun ih I p hx hs z
      · exact mc_e8 HX HY hK hrun ih I p hx hs z
    · exact mc_fin HX HY hK hrun ih I p hx hs
end
end
section
/-! run -/
def cp_m (ip me : Nat → Int32) (run : Nat) : Nat → (Nat → Int32)
  | 0 => me
  | k + 1 => upd (cp_m ip me run k) (run * 48 + k) (ip (run * 48 + k))
section
variable {n nv na np c : Nat} {sl bo pt iS fc rS cT aC tk : Int32} {od jo loB hiB ki fa fb bf ch bs ps pb pp wS wT sB tL ip me eS oC oL oV dC dT dK co cP cR sE eV : Nat → Int32}
variable {kd fA fB : Nat → Nat}
theorem xw_ce7 (hc : c ≤ 64) (C : pg_C kd np c) (hk : zz_k ki kd c) (hH : px_H kd np c bf ch bs) {post : SX → Prop} (hp : ∀ sE, (∀ i, i < c → sE i = nI (pg_en kd c i)) → post (nI n, nI nv, nI na, nI np, nI (nv + na), nI (nv + na + 3 * np), sl, bo, nI c, pt, iS, fc, rS, cT, aC, tk, od, jo, loB, hiB, ki, fa, fb, bf, ch, bs, ps, pb, pp, wS, wT, sB, tL, ip, me, eS, oC, oL, oV, dC, dT, dK, co, cP, cR, sE, eV)) :
    ∀ k m sE, k ≤ c → k < m → (∀ q, k ≤ q → q < c → sE q = nI (pg_en kd c q)) → wX_computeEnds_7 post (nI n) (nI nv) (nI na) (nI np) (nI (nv + na)) (nI (nv + na + 3 * np)) sl bo (nI c) pt iS fc rS cT aC tk m (nI k + (-1)) od jo loB hiB ki fa fb bf ch bs ps pb pp wS wT sB tL ip me eS oC oL oV dC dT dK co cP cR sE eV := by
  intro k
  induction k with
  | zero =>
    intro m sE h1 h2 hI
    obtain ⟨m, rfl⟩ : ∃ e, m = e + 1 := ⟨m - 1, by omega⟩
    rw [bz_m0]
    exact br_t (by decide) (hp sE (fun q hq => hI q (Nat.zero_le _) hq))
  | succ i ih =>
    intro m sE h1 h2 hI
    obtain ⟨m, rfl⟩ : ∃ e, m = e + 1 := ⟨m - 1, by omega⟩
    obtain ⟨k1, k2⟩ := hk i (by omega)
    have iv : vp_in (nI i) 64 := vp_in_nI (by omega) (by decide)
    have a3 := pg_ar3 (kd i)
    rw [pk_m1]
    refine br_f (nI_pos (by omega)) (And.intro iv ?_)
    rw [nI_clamp (n := i) (by omega), k1]
    refine xw_cc k2 ?_
    have W : ∀ x, x = nI (pg_en kd c i) → wX_computeEnds_7 post (nI n) (nI nv) (nI na) (nI np) (nI (nv + na)) (nI (nv + na + 3 * np)) sl bo (nI c) pt iS fc rS cT aC tk m (nI i + (-1)) od jo loB hiB ki fa fb bf ch bs ps pb pp wS wT sB tL ip me eS oC oL oV dC dT dK co cP cR (upd sE i x) eV := fun x ex => ih m _ (by omega) (by omega) (fun q q1 q2 => bz_uk (fun e => by rw [ex, e]) (fun e => hI q (by omega) q2))
    refine pk_eq (pg_ar (kd i)) 0 (fun z => And.intro iv (nm_e (nm_e (W _ ?_)))) (fun z => ?_) rfl rfl (by omega) (by omega)
    · rw [nI_1, pg_c_leaf C.1 (by omega) z]
    · have e1 : 3 * nI i + nI (pg_ar (kd i)) - 1 = nI (3 * i + pg_ar (kd i) - 1) := by rw [bz_3, nI_add, bz_s1 (by omega)]
      have last : ∃ p, p < c ∧ i < p ∧ ch (3 * i + pg_ar (kd i) - 1) = nI p ∧ pg_en kd c i = pg_en kd c p := by
        obtain ⟨b1, b2⟩ := pg_c0 C.1 C.2.1 (i := i) (by omega) (by omega)
        have har : pg_ar (kd i) = 1 ∨ pg_ar (kd i) = 2 ∨ pg_ar (kd i) = 3 := by omega
        rcases har with w | w | w
        · exact ⟨i + 1, b1, by omega, by rw [w]; exact hH.2.1 i 0 _ b1 b2, pg_cL C.1 C.2.1 b1 b2 (by omega)⟩
        · obtain ⟨d1, d2, d3⟩ := pg_cS C.1 C.2.1 b1 b2 (by omega)
          exact ⟨_, d1, by omega, by rw [w]; exact hH.2.1 i 1 _ d1 d3, pg_cL C.1 C.2.1 d1 d3 (by omega)⟩
        · obtain ⟨d1, d2, d3⟩ := pg_cS C.1 C.2.1 b1 b2 (by omega)
          obtain ⟨f1, f2, f3⟩ := pg_cS C.1 C.2.1 d1 d3 (by omega)
          exact ⟨_, f1, by omega, by rw [w]; exact hH.2.1 i 2 _ f1 f3, pg_cL C.1 C.2.1 f1 f3 (by omega)⟩
      obtain ⟨p, p1, p2, p3, p4⟩ := last
      rw [e1, nI_clamp (n := 3 * i + pg_ar (kd i) - 1) (by omega), p3, nI_clamp (n := p) (by omega), hI p (by omega) p1]
      exact And.intro (vp_in_nI (by omega) (by decide)) (And.intro (vp_in_nI (by omega) (by decide)) (And.intro iv (nm_e (nm_e (W _ (by rw [p4]))))))
theorem xw_ce (hc : c ≤ 64) (C : pg_C kd np c) (hk : zz_k ki kd c) (hH : px_H kd np c bf ch bs) {post : SX → Prop} (hp : ∀ sE, (∀ i, i < c → sE i = nI (pg_en kd c i)) → post (nI n, nI nv, nI na, nI np, nI (nv + na), nI (nv + na + 3 * np), sl, bo, nI c, pt, iS, fc, rS, cT, aC, tk, od, jo, loB, hiB, ki, fa, fb, bf, ch, bs, ps, pb, pp, wS, wT, sB, tL, ip, me, eS, oC, oL, oV, dC, dT, dK, co, cP, cR, sE, eV)) : wpX_computeEnds post (nI n, nI nv, nI na, nI np, nI (nv + na), nI (nv + na + 3 * np), sl, bo, nI c, pt, iS, fc, rS, cT, aC, tk, od, jo, loB, hiB, ki, fa, fb, bf, ch, bs, ps, pb, pp, wS, wT, sB, tL, ip, me, eS, oC, oL, oV, dC, dT, dK, co, cP, cR, sE, eV) := by
  intro x ex
  refine ⟨66, ?_⟩
  rw [show x = nI c + (-1) from by rw [ex]; grind]
  exact xw_ce7 hc C hk hH hp c 66 sE (Nat.le_refl _) (by omega) (fun q q1 q2 => by omega)
theorem xw_ex2 (H : mx_H kd fA fB n nv na np c ki fa fb bf ch bs sE) {run T : Nat} (hrun : run < 2) {post : SX → Prop}
    (hp : ∃ n87 : Nat, wX_execute_87 post (nI run) n87 0 (nI n) (nI nv) (nI na) (nI np) (nI (nv + na)) (nI (nv + na + 3 * np)) sl bo (nI c) pt iS fc rS (nI 1) (nI 0) (nI T) od jo loB hiB ki fa fb bf ch bs ps pb pp wS wT sB tL ip (cp_m ip me run 48) (upd eS run 0) (upd oC run 0) oL oV (upd dC run 0) dT dK (upd co 0 (nI (pg_st kd c np))) cP cR sE eV) :
    ∀ f i m, i + f = 48 → f < m → wX_execute_2 post (nI run) (nI T) (nI n) (nI nv) (nI na) (nI np) (nI (nv + na)) (nI (nv + na + 3 * np)) sl bo (nI c) pt iS fc rS cT aC tk m (nI i) od jo loB hiB ki fa fb bf ch bs ps pb pp wS wT sB tL ip (cp_m ip me run i) eS oC oL oV dC dT dK co cP cR sE eV := by
  obtain ⟨⟨hn, hnv, hna, hnp, hc⟩, C, F, hk, hfa, hfb, hH, hsE⟩ := H
  have ivr : vp_in (nI run) 2 := vp_in_nI hrun (by decide)
  have er : (nI run).toNatClampNeg = run := nI_clamp (by omega)
  obtain ⟨r1, r2, r3⟩ := pg_st_lt C.1 C.2.1 (b := np) (Nat.le_refl _)
  have gb := hH.2.2 _ r1 r2
  rw [pg_bd_st C.1 (Nat.le_refl _) r1] at gb
  intro f
  induction f with
  | zero =>
    intro i m hf hm
    obtain ⟨m, rfl⟩ : ∃ e, m = e + 1 := ⟨m - 1, by omega⟩
    have e : i = 48 := by omega
    subst e
    refine br_t (by decide) (And.intro ivr ?_)
    rw [er]
    refine nm_e (And.intro ivr (nm_e (And.intro ivr (nm_e (And.intro (vp_in_nI (by omega) (by decide)) ?_)))))
    rw [nI_clamp (n := np) (by omega), gb]
    exact xw_pc (h := 0) (by decide) hp
  | succ f ih =>
    intro i m hf hm
    obtain ⟨m, rfl⟩ : ∃ e, m = e + 1 := ⟨m - 1, by omega⟩
    refine br_f (nI_ge (b := 48) (by omega) (by decide)) ?_
    rw [bz_48, nI_clamp (n := run * 48 + i) (by omega), nI_1]
    have iv : vp_in (nI (run * 48 + i)) 96 := vp_in_nI (by omega) (by decide)
    exact And.intro iv (And.intro iv (nm_e (nm_e (ih (i + 1) m (by omega) (by omega)))))
end
section
variable {n nv na np c : Nat} {sl iS rS yC yF bo yD yA yT : Int32} {od yB yL yE ki fa fb yV eS oC dC yK cP cR oL oV dT dK : Nat → Int32}
variable {kd fA fB : Nat → Nat} {ip me : Nat → Int32}
theorem yw_ex2 (H : my_H kd fA fB n nv na np c ki fa fb) {run : Nat} {fu : Int32} (hrun : run < 2) {post : SY → Prop}
    (hp : ∃ n97 : Nat, wY_execute_97 post (nI run) n97 0 (nI n) (nI nv) (nI na) (nI np) (nI (nv + na)) (nI (nv + na + 3 * np)) sl iS rS yC 0 bo (nI c) (nI 0) (nI (pg_st kd c np)) (nI (in_cl fu 1 200)) od yB yL (gl 96 ip (cp_m ip me run 48)) ki fa fb yV (upd eS run 0) (upd oC run 0) (upd dC run 0) yK cP cR oL oV dT dK) :
    ∀ f i m, i + f = 48 → f < m → wY_execute_2 post (nI run) fu (nI n) (nI nv) (nI na) (nI np) (nI (nv + na)) (nI (nv + na + 3 * np)) sl iS rS yC yF bo (nI c) yD yA yT m (nI i) od yB yL (gl 96 ip (cp_m ip me run i)) ki fa fb yV eS oC dC yK cP cR oL oV dT dK := by
  obtain ⟨⟨hn, hnv, hna, hnp, hc⟩, C, F, hk, hfa, hfb⟩ := H
  have ivr : vp_in (nI run) 2 := vp_in_nI hrun (by decide)
  have er : (nI run).toNatClampNeg = run := nI_clamp (by omega)
  intro f
  induction f with
  | zero =>
    intro i m hf hm
    obtain ⟨m, rfl⟩ : ∃ e, m = e + 1 := ⟨m - 1, by omega⟩
    have e : i = 48 := by omega
    subst e
    refine br_t (by decide) (And.intro ivr ?_)
    rw [er]
    refine nm_e (And.intro ivr (nm_e (And.intro ivr (nm_e ?_))))
    refine yw_clamp (lo := 1) (hi := 200) (by decide) (by decide) rfl rfl ?_
    exact yw_start hk hc (b := np) (by omega) hp rfl
  | succ f ih =>
    intro i m hf hm
    obtain ⟨m, rfl⟩ : ∃ e, m = e + 1 := ⟨m - 1, by omega⟩
    refine br_f (nI_ge (b := 48) (by omega) (by decide)) ?_
    have e1 : (96 : Int32) + nI run * 48 + nI i = nI (96 + (run * 48 + i)) := by
      rw [show (96 : Int32) = nI 96 from rfl, show (48 : Int32) = nI 48 from rfl, pk_mul, nI_add, nI_add]
      exact congrArg nI (by omega)
    rw [e1, bz_48, nI_clamp (n := run * 48 + i) (by omega), nI_clamp (n := 96 + (run * 48 + i)) (by omega), nI_1, gl_uhi, gl_lo (by omega)]
    exact And.intro (vp_in_nI (by omega) (by decide)) (And.intro (vp_in_nI (by omega) (by decide)) (nm_e (nm_e (ih (i + 1) m (by omega) (by omega)))))
end
section
variable {n nv na np c : Nat} {sl bo pt iS fc rS cT aC tk : Int32} {od jo loB hiB ki fa fb bf ch bs ps pb pp wS wT sB tL ip me eS oC oL oV dC dT dK co cP cR sE eV : Nat → Int32} {yC yF yD yA yT : Int32} {yB yL yE yV yK : Nat → Int32}
variable {kd fA fB : Nat → Nat}
/-- one run on both sides -/
theorem ex_lock (HX : mx_H kd fA fB n nv na np c ki fa fb bf ch bs sE) (HY : my_H kd fA fB n nv na np c ki fa fb) {run : Nat} {A : Nat → Prop} {fu : Int32} (hrun : run < 2) (hA : ∀ r, r < 2 → r ≠ run → A r → mc_fr n oC oL dC r) :
    mc_o n nv na np c sl bo pt iS fc rS od jo loB hiB ki fa fb bf ch bs ps pb pp wS wT sB tL ip sE yC yB yL run A 0 (fun eV post _ => wpX_execute post (nI n, nI nv, nI na, nI np, nI (nv + na), nI (nv + na + 3 * np), sl, bo, nI c, pt, iS, fc, rS, cT, aC, tk, od, jo, loB, hiB, ki, fa, fb, bf, ch, bs, ps, pb, pp, wS, wT, sB, tL, ip, me, eS, oC, oL, oV, dC, dT, dK, co, cP, cR, sE, eV) (nI run) (nI (in_cl fu 1 200))) (fun yV post _ => wpY_execute post (nI n, nI nv, nI na, nI np, nI (nv + na), nI (nv + na + 3 * np), sl, iS, rS, yC, yF, bo, nI c, yD, yA, yT, od, yB, yL, gl 96 ip me, ki, fa, fb, yV, eS, oC, dC, yK, cP, cR, oL, oV, dT, dK) (nI run) fu) := by
  obtain ⟨_, t2, _⟩ := in_clb (x := fu) (lo := 1) (hi := 200) (by decide) (by decide)
  have HX' := HX
  obtain ⟨⟨hn, hnv, hna, hnp, hc⟩, C, hF, hk, hfa, hfb, hH, hsE⟩ := HX
  obtain ⟨K, P, hK⟩ := ma_Kex C
  obtain ⟨r1, r2, r3⟩ := pg_st_lt C.1 C.2.1 (b := np) (Nat.le_refl _)
  obtain ⟨l1, l2⟩ := (hK _ r1).1 r2
  have elt := pg_enlt C r1
  have eL : ma_L K (fun _ => 0) 0 (pg_st kd c np) = [] := by unfold ma_L; rw [l1]; rfl
  have o := mc_main (n := n) (nv := nv) (na := na) (np := np) (c := c) (sl := sl) (bo := bo) (pt := pt) (iS := iS) (fc := fc) (rS := rS) (od := od) (jo := jo) (loB := loB) (hiB := hiB) (ki := ki) (fa := fa) (fb := fb) (bf := bf) (ch := ch) (bs := bs) (ps := ps) (pb := pb) (pp := pp) (wS := wS) (wT := wT) (sB := sB) (tL := tL) (ip := ip) (sE := sE) (yC := yC) (yB := yB) (yL := yL) (A := A) HX' HY hK hrun 40193 (in_cl fu 1 200) 0 (pg_st kd c np) (fun _ => 0) [nI (pg_st kd c np)] (nI 1) 0 (cp_m ip me run 48) (upd eS run 0) (upd oC run 0) oL oV (upd dC run 0) dT dK (upd co 0 (nI (pg_st kd c np))) cP cR yK 0 0
    ⟨r1, pg_rt8 C r1 r2, by omega, t2, pk_us, ⟨0, 0, by omega, pk_us, by omega, pk_us, fun i hi => absurd hi (Nat.not_lt_zero _)⟩, fun r hr hne hAr => by
      obtain ⟨o', e', q1, q2, q3, q4, q5⟩ := hA r hr hne hAr
      exact ⟨o', e', q1, by rw [pk_un hne]; exact q2, q3, by rw [pk_un hne]; exact q4, q5⟩, fun j hj => absurd hj (Nat.not_lt_zero _), rfl, pk_us, trivial⟩
    (Or.inl ⟨rfl, by rw [eL], by have e : ma_U P (fun _ => 0) 0 = 0 := rfl; omega⟩) (by omega) (by omega)
  obtain ⟨cT', aC', tk', yF', yD', yA', yT', me', eS', oC', oL', oV', dC', dT', dK', co', cP', cR', yK', h1, h2, h3⟩ := o
  refine ⟨cT', aC', tk', yF', yD', yA', yT', me', eS', oC', oL', oV', dC', dT', dK', co', cP', cR', yK', h1, fun eV post m hm hp => ?_, fun yV post m hm hp => ?_⟩
  · exact ⟨49, xw_ex2 HX' hrun ⟨40195, h2 eV post 40195 (by decide) hp⟩ 48 0 49 (by decide) (by decide)⟩
  · exact ⟨49, yw_ex2 HY hrun ⟨40195, h3 yV post 40195 (by decide) hp⟩ 48 0 49 (by decide) (by decide)⟩
end
theorem i_vc_run {k : Nat} {u : SX} {v : SY} (I : i_Rel k u v) (hk : k + 5 ≤ 2564) (v1 : Int32) : wpX_run (fun r u' => wpY_run (fun r' v' => r' = r ∧ i_Rel (k + 5) u' v') v v1) u v1 := by
  refine rl_el (P := fun u v => wpX_run (fun r u' => wpY_run (fun r' v' => r' = r ∧ i_Rel (k + 5) u' v') v v1) u v1) ?_ I
  intro n nv na np c sl bo pt iS fc rS cT aC tk yC yF yD yA yT od jo loB hiB ki fa fb bf ch bs ps pb pp wS wT sB tL ip me eS oC oL oV dC dT dK co cP cR sE eV yB yL yE yV yK R
  obtain ⟨hsz, hod, hsl, hlat, hpg, hgl, hinf, hrun⟩ := R
  have hsz' := hsz
  obtain ⟨hn1, hn, hnv1, hnv, hna, hnp, hc⟩ := hsz'
  have hbt := pg_bd_top (kd := kn ki) (np := np) c
  have hpg' := hpg
  obtain ⟨hG, hkk, hWT, hF, hfa, hfb, hpt, hS, hH⟩ := hpg
  by_cases hnc : sl = 0 ∨ ¬ pg_dp (kn ki) np c = 0
  · have hbd := rl_nc hsz hsl hpg' hnc
    unfold wpX_run
    dsimp only
    refine xw_nc hsz hpg' hnc ?_
    refine br_t rfl ?_
    refine yw_body hkk hc hnp hG (Nat.le_refl c) ?_ rfl
    exact br_f (nI_nlt hbd (by omega)) ⟨rfl, rl_mk ⟨hsz, hod, hsl, hlat, hpg', hgl, hinf, hrun⟩⟩
  · have hs : ¬ sl = 0 := fun w => hnc (Or.inl w)
    have hd : pg_dp (kn ki) np c = 0 := Classical.byContradiction (fun w => hnc (Or.inr w))
    have C := rl_C hpg' hd
    have hbd : np < pg_bd (kn ki) np c := (pg_bd_c hG).mpr hd
    have hE := hgl.2
    subst hE
    unfold wpX_run
    dsimp only
    refine xw_co hsz hpg' hs hd ?_
    refine br_f (by decide) ?_
    refine xw_clamp (lo := 1) (hi := 200) (by decide) (by decide) rfl rfl ?_
    refine xw_ce hc C hkk hH (fun sE hsE => ?_)
    have HX : mx_H (kn ki) (kn fa) (kn fb) n nv na np c ki fa fb bf ch bs sE := ⟨⟨hn, hnv, hna, hnp, hc⟩, C, hF, hkk, hfa, hfb, hH, hsE⟩
    have HY : my_H (kn ki) (kn fa) (kn fb) n nv na np c ki fa fb := ⟨⟨hn, hnv, hna, hnp, hc⟩, C, hF, hkk, hfa, hfb⟩
    have o1 := ex_lock (n := n) (nv := nv) (na := na) (np := np) (c := c) (sl := sl) (bo := bo) (pt := pt) (iS := iS) (fc := fc) (rS := rS) (od := od) (jo := jo) (loB := loB) (hiB := hiB) (ki := ki) (fa := fa) (fb := fb) (bf := bf) (ch := ch) (bs := bs) (ps := ps) (pb := pb) (pp := pp) (wS := wS) (wT := wT) (sB := sB) (tL := tL) (ip := ip) (sE := sE) (yC := yC) (yB := yB) (yL := yL) (me := me) (eS := eS) (oC := oC) (oL := oL) (oV := oV) (dC := dC) (dT := dT) (dK := dK) (co := co) (cP := cP) (cR := cR) (yK := yK) (cT := cT) (aC := aC) (tk := tk) (yF := yF) (yD := yD) (yA := yA) (yT := yT) HX HY (run := 0) (A := fun _ => False) (fu := v1) (by decide) (fun r _ _ w => absurd w id)
    obtain ⟨cT1, aC1, tk1, yF1, yD1, yA1, yT1, me1, eS1, oC1, oL1, oV1, dC1, dT1, dK1, co1, cP1, cR1, yK1, g1, g2, g3⟩ := o1
    have o2 := ex_lock (n := n) (nv := nv) (na := na) (np := np) (c := c) (sl := sl) (bo := bo) (pt := pt) (iS := iS) (fc := fc) (rS := rS) (od := od) (jo := jo) (loB := loB) (hiB := hiB) (ki := ki) (fa := fa) (fb := fb) (bf := bf) (ch := ch) (bs := bs) (ps := ps) (pb := pb) (pp := pp) (wS := wS) (wT := wT) (sB := sB) (tL := tL) (ip := ip) (sE := sE) (yC := yC) (yB := yB) (yL := yL) (me := me1) (eS := eS1) (oC := oC1) (oL := oL1) (oV := oV1) (dC := dC1) (dT := dT1) (dK := dK1) (co := co1) (cP := cP1) (cR := cR1) (yK := yK1) (cT := cT1) (aC := aC1) (tk := tk1) (yF := yF1) (yD := yD1) (yA := yA1) (yT := yT1) HX HY (run := 1) (A := fun r => r = 0) (fu := v1) (by decide) (fun r hr _ w => g1 r hr (Or.inl w))
    obtain ⟨cT2, aC2, tk2, yF2, yD2, yA2, yT2, me2, eS2, oC2, oL2, oV2, dC2, dT2, dK2, co2, cP2, cR2, yK2, f1, f2, f3⟩ := o2
    have fr : ∀ r, r < 2 → mc_fr n oC2 oL2 dC2 r := fun r hr => f1 r hr (by omega)
    have fin : ∀ eV yV, i_Rel (k + 5) (nI n, nI nv, nI na, nI np, nI (nv + na), nI (nv + na + 3 * np), sl, bo, nI c, pt, iS, fc, 1, cT2, aC2, tk2, od, jo, loB, hiB, ki, fa, fb, bf, ch, bs, ps, pb, pp, wS, wT, sB, tL, ip, me2, eS2, oC2, oL2, oV2, dC2, dT2, dK2, co2, cP2, cR2, sE, eV) (nI n, nI nv, nI na, nI np, nI (nv + na), nI (nv + na + 3 * np), sl, iS, 1, yC, yF2, bo, nI c, yD2, yA2, yT2, od, yB, yL, gl 96 ip me2, ki, fa, fb, yV, eS2, oC2, dC2, yK2, cP2, cR2, oL2, oV2, dT2, dK2) := by
      intro eV yV
      exact rl_mk ⟨hsz, hod, ⟨hsl.1, fun w => absurd w hs⟩, hlat, hpg', ⟨hgl.1, rfl⟩, hinf, Or.inr ⟨rfl, hs, hd, fr⟩⟩
    -- the reference's run, whatever its answer is to be
    have YR : ∀ (post : Int32 → SY → Prop), (∀ yV, ((eS2 0 = 1 → ((eS2 1 = 1 → post 1 (nI n, nI nv, nI na, nI np, nI (nv + na), nI (nv + na + 3 * np), sl, iS, 1, yC, yF2, bo, nI c, yD2, yA2, yT2, od, yB, yL, gl 96 ip me2, ki, fa, fb, yV, eS2, oC2, dC2, yK2, cP2, cR2, oL2, oV2, dT2, dK2)) ∧ (¬ eS2 1 = 1 → post 0 (nI n, nI nv, nI na, nI np, nI (nv + na), nI (nv + na + 3 * np), sl, iS, 1, yC, yF2, bo, nI c, yD2, yA2, yT2, od, yB, yL, gl 96 ip me2, ki, fa, fb, yV, eS2, oC2, dC2, yK2, cP2, cR2, oL2, oV2, dT2, dK2)))) ∧ (¬ eS2 0 = 1 → post 0 (nI n, nI nv, nI na, nI np, nI (nv + na), nI (nv + na + 3 * np), sl, iS, 1, yC, yF2, bo, nI c, yD2, yA2, yT2, od, yB, yL, gl 96 ip me2, ki, fa, fb, yV, eS2, oC2, dC2, yK2, cP2, cR2, oL2, oV2, dT2, dK2)))) → wpY_run post (nI n, nI nv, nI na, nI np, nI (nv + na), nI (nv + na + 3 * np), sl, iS, rS, yC, yF, bo, nI c, yD, yA, yT, od, yB, yL, gl 96 ip me, ki, fa, fb, yV, eS, oC, dC, yK, cP, cR, oL, oV, dT, dK) v1 := by
      intro post h
      refine yw_body hkk hc hnp hG (Nat.le_refl c) ?_ rfl
      refine br_t (nI_lt hbd (by omega)) ?_
      refine g3 yV _ 1 (by decide) (fun yV => ?_)
      refine f3 yV _ 1 (by decide) (fun yV => ?_)
      exact h yV
    refine ⟨3, br_f (by decide) ?_⟩
    refine g2 eV _ 1 (by decide) (fun eV => ?_)
    refine nm_e (br_f (by decide) ?_)
    refine f2 eV _ 1 (by decide) (fun eV => ?_)
    refine nm_e (br_t (by decide) ?_)
    by_cases e0 : eS2 0 = 1
    · refine br_t e0 ?_
      by_cases e1 : eS2 1 = 1
      · exact br_t e1 (YR _ (fun yV => br_t e0 (br_t e1 ⟨rfl, fin eV yV⟩)))
      · exact br_f e1 (YR _ (fun yV => br_t e0 (br_f e1 ⟨rfl, fin eV yV⟩)))
    · exact br_f e0 (YR _ (fun yV => br_f e0 ⟨rfl, fin eV yV⟩))
end
