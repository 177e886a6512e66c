section
/-! rows pasted from the kit (kit/rows): a starting text -/
theorem pk_us {f : Nat → Int32} {k : Nat} {x : Int32} : upd f k x k = x := if_pos rfl
theorem pk_un {f : Nat → Int32} {k j : Nat} {x : Int32} (h : j ≠ k) : upd f k x j = f j := if_neg h
theorem pk_sub {a b : Nat} (h : b ≤ a) : nI a - nI b = nI (a - b) := by
  obtain ⟨c, rfl⟩ : ∃ c, a = c + b := ⟨a - b, by omega⟩
  rw [← nI_add, Int32.add_sub_cancel, Nat.add_sub_cancel]
theorem pk_m1 (n : Nat) : nI (n + 1) + (-1) = nI n := by
  rw [← nI_1, Int32.add_assoc, show (1 : Int32) + (-1) = 0 from rfl, Int32.add_zero]
theorem pk_mul (a b : Nat) : nI a * nI b = nI (a * b) := (Int32.ofNat_mul a b).symm
theorem pk_sub_toInt {a b : Nat} (ha : a < 2 ^ 30) (hb : b < 2 ^ 30) : (nI a - nI b).toInt = (a : Int) - b := by
  rw [Int32.toInt_sub, nI_toInt (by omega), nI_toInt (by omega)]
  exact Int.bmod_eq_of_le (by omega) (by omega)
theorem pk_le {x y : Int32} {A B : Prop} (a b : Nat) (f : a ≤ b → A) (g : b < a → B) (hx : x = nI a := by rfl) (hy : y = nI b := by rfl) (ha : a < 2 ^ 31 := by omega) (hb : b < 2 ^ 31 := by omega) : (x ≤ y → A) ∧ (¬ x ≤ y → B) := by
  subst hx hy
  rw [nI_leI ha hb]
  exact ⟨f, fun z => g (by omega)⟩
theorem pk_lt {x y : Int32} {A B : Prop} (a b : Nat) (f : a < b → A) (g : b ≤ a → B) (hx : x = nI a := by rfl) (hy : y = nI b := by rfl) (ha : a < 2 ^ 31 := by omega) (hb : b < 2 ^ 31 := by omega) : (x < y → A) ∧ (¬ x < y → B) := by
  subst hx hy
  rw [nI_ltI ha hb]
  exact ⟨f, fun z => g (by omega)⟩
theorem pk_eq {x y : Int32} {A B : Prop} (a b : Nat) (f : a = b → A) (g : a ≠ b → B) (hx : x = nI a := by rfl) (hy : y = nI b := by rfl) (ha : a < 2 ^ 31 := by omega) (hb : b < 2 ^ 31 := by omega) : (x = y → A) ∧ (¬ x = y → B) := by
  subst hx hy
  rw [nI_eq ha hb]
  exact ⟨f, g⟩
theorem pk_in {x : Int32} (n N : Nat) (h : n < N) (hx : x = nI n := by rfl) (hN : N < 2 ^ 31 := by omega) : vp_in x N := by
  subst hx
  exact vp_in_nI h hN
theorem pk_cl {x : Int32} (n : Nat) (hx : x = nI n := by rfl) (h : n < 2 ^ 31 := by omega) : x.toNatClampNeg = n := by
  subst hx
  exact nI_clamp h
theorem pk_tn {n : Nat} (h : n < 2 ^ 32) : (nI n).toBitVec.toNat = n := Nat.mod_eq_of_lt h
theorem pk_and (x : Int32) {m : Int32} (k : Nat) (hm : m.toBitVec.toNat = 2 ^ k - 1) : x &&& m = nI (x.toBitVec.toNat % 2 ^ k) := by
  apply Int32.toBitVec_inj.mp
  apply BitVec.eq_of_toNat_eq
  rw [Int32.toBitVec_and, BitVec.toNat_and, hm, Nat.and_two_pow_sub_one_eq_mod]
  show _ = (BitVec.ofNat 32 _).toNat
  rw [BitVec.toNat_ofNat]
  exact (Nat.mod_eq_of_lt (Nat.lt_of_le_of_lt (Nat.mod_le _ _) x.toBitVec.isLt)).symm
theorem pk_andN {n : Nat} (h : n < 2 ^ 32) {m : Int32} (k : Nat) (hm : m.toBitVec.toNat = 2 ^ k - 1) : nI n &&& m = nI (n % 2 ^ k) := by
  rw [pk_and _ k hm, pk_tn h]
theorem pk_shl (a s : Int32) (k : Nat) (hs : (s.toBitVec.smod 32).toNat = k) : (a <<< s).toBitVec.toNat = a.toBitVec.toNat * 2 ^ k % 2 ^ 32 := by
  show (a.toBitVec <<< (s.toBitVec.smod 32).toNat).toNat = _
  rw [hs, BitVec.toNat_shiftLeft, Nat.shiftLeft_eq]
theorem pk_shlN {n : Nat} (s : Int32) (k : Nat) (hs : (s.toBitVec.smod 32).toNat = k) (h : n * 2 ^ k < 2 ^ 32) : nI n <<< s = nI (n * 2 ^ k) := by
  apply Int32.toBitVec_inj.mp
  apply BitVec.eq_of_toNat_eq
  have hn : n < 2 ^ 32 := Nat.lt_of_le_of_lt (Nat.le_mul_of_pos_right n (Nat.two_pow_pos k)) h
  rw [pk_shl _ _ k hs, pk_tn hn, pk_tn h, Nat.mod_eq_of_lt h]
theorem pk_shr (a s : Int32) (k : Nat) (hs : (s.toBitVec.smod 32).toNat = k) : (a >>> s).toInt = a.toInt >>> k := by
  show (a.toBitVec.sshiftRight (s.toBitVec.smod 32).toNat).toInt = _
  rw [hs, BitVec.toInt_sshiftRight]
  rfl
theorem pk_shrN {n : Nat} (h : n < 2 ^ 31) (s : Int32) (k : Nat) (hs : (s.toBitVec.smod 32).toNat = k) : nI n >>> s = nI (n / 2 ^ k) := by
  apply Int32.toInt_inj.mp
  have h2 : n / 2 ^ k ≤ n := Nat.div_le_self _ _
  rw [pk_shr _ _ k hs, nI_toInt h, nI_toInt (by omega), Int.shiftRight_eq_div_pow]
  rfl
theorem pk_least (P : Nat → Prop) (h : ∃ k, P k) : ∃ k, P k ∧ ∀ j, j < k → ¬ P j := by
  obtain ⟨k, hk⟩ := h
  induction k using Nat.strongRecOn with
  | ind k ih =>
    by_cases e : ∃ j, j < k ∧ P j
    · obtain ⟨j, hj, pj⟩ := e
      exact ih j hj pj
    · exact ⟨k, hk, fun j hj pj => e ⟨j, hj, pj⟩⟩
theorem s_l : ∀ n, n < 32 → ((nI n &&& 31).toBitVec.smod 32).toNat = n := by decide +kernel
end
section
/-! least costs, as pure statements: rl_A (cells f .. f+d-1 stand between l and r at cost k), the least cost, its two recursions -/
def rl_ds (a b : Nat) : Nat := (a - b) + (b - a)
def rA (f : Nat → Nat) : Nat → Int32 := fun i => nI (f i)
theorem rA_cl {f : Nat → Nat} {c : Nat} (h : c < 2 ^ 31) : rA f (nI c).toNatClampNeg = nI (f c) := by
  rw [nI_clamp h]; rfl
theorem rA_upd {f : Nat → Nat} {c x : Nat} : upd (rA f) c (nI x) = rA (fun i => if i = c then x else f i) := by
  funext j
  unfold upd rA
  dsimp only
  by_cases h : j = c
  · rw [if_pos h, if_pos h]
  · rw [if_neg h, if_neg h]
/-- data within bounds -/
def rl_D (w t g : Nat → Nat) (n L : Nat) : Prop := L ≤ 60 ∧ n ≤ 10 ∧ (∀ i, w i ≤ 5) ∧ (∀ i, t i ≤ 60) ∧ (∀ i, g i ≤ 5)
def rl_sm (h : Nat → Nat) : Nat → Nat
  | 0 => 0
  | n + 1 => rl_sm h n + h n
theorem rl_sm_mono {h h' : Nat → Nat} : ∀ c, (∀ i, i < c → h i ≤ h' i) → rl_sm h c ≤ rl_sm h' c := by
  intro c
  induction c with
  | zero => intro _; exact Nat.le_refl _
  | succ c ih =>
    intro hh
    have a := ih (fun i hi => hh i (by omega))
    have b := hh c (by omega)
    show rl_sm h c + h c ≤ rl_sm h' c + h' c
    omega
theorem rl_sm_congr {h h' : Nat → Nat} : ∀ c, (∀ i, i < c → h i = h' i) → rl_sm h c = rl_sm h' c := by
  intro c hh
  have a := rl_sm_mono (h := h) (h' := h') c (fun i hi => Nat.le_of_eq (hh i hi))
  have b := rl_sm_mono (h := h') (h' := h) c (fun i hi => Nat.le_of_eq (hh i hi).symm)
  omega
theorem rl_sm_zero {h : Nat → Nat} : ∀ c, (∀ i, i < c → h i = 0) → rl_sm h c = 0 := by
  intro c
  induction c with
  | zero => intro _; rfl
  | succ c ih =>
    intro hh
    have a := ih (fun i hi => hh i (by omega))
    have b := hh c (by omega)
    show rl_sm h c + h c = 0
    omega
theorem rl_sm_le {h : Nat → Nat} {b : Nat} : ∀ c, (∀ i, i < c → h i ≤ b) → rl_sm h c ≤ c * b := by
  intro c
  induction c with
  | zero => intro _; exact Nat.zero_le _
  | succ c ih =>
    intro hh
    have a := ih (fun i hi => hh i (by omega))
    have d := hh c (by omega)
    show rl_sm h c + h c ≤ (c + 1) * b
    rw [Nat.succ_mul]
    omega
/-- a value inserted at place a -/
theorem rl_sm_ins {q q' : Nat → Nat} {a T : Nat} (h : Nat → Nat) (h1 : ∀ i, i < a → q' i = q i) (h2 : q' a = T) : ∀ m, a ≤ m → (∀ i, a < i → i ≤ m → q' i = q (i - 1)) → rl_sm (fun i => h (q' i)) (m + 1) = rl_sm (fun i => h (q i)) m + h T := by
  intro m
  induction m with
  | zero =>
    intro ha _
    have e : a = 0 := by omega
    subst e
    show 0 + h (q' 0) = 0 + h T
    rw [h2]
  | succ m ih =>
    intro ha h3
    by_cases e : a = m + 1
    · subst e
      have c := rl_sm_congr (h := fun i => h (q' i)) (h' := fun i => h (q i)) (m + 1) (fun i hi => congrArg h (h1 i hi))
      show rl_sm (fun i => h (q' i)) (m + 1) + h (q' (m + 1)) = _
      rw [c, h2]
    · have c := ih (by omega) (fun i hi hj => h3 i hi (by omega))
      have d : q' (m + 1) = q m := h3 (m + 1) (by omega) (Nat.le_refl _)
      show rl_sm (fun i => h (q' i)) (m + 1) + h (q' (m + 1)) = (rl_sm (fun i => h (q i)) m + h (q m)) + h T
      rw [c, d]
      omega
/-- k is the least of S, or 1000000 if S is empty -/
def rl_Mn (S : Nat → Prop) (k : Nat) : Prop := (S k ∧ k < 1000000 ∧ ∀ j, S j → k ≤ j) ∨ (k = 1000000 ∧ ∀ j, ¬ S j)
noncomputable def rl_mn (S : Nat → Prop) : Nat := Classical.epsilon (rl_Mn S)
theorem rl_Mn_un {S : Nat → Prop} {a b : Nat} (ha : rl_Mn S a) (hb : rl_Mn S b) : a = b := by
  rcases ha with ⟨a1, a2, a3⟩ | ⟨a1, a2⟩
  · rcases hb with ⟨b1, b2, b3⟩ | ⟨b1, b2⟩
    · have h1 := a3 b b1
      have h2 := b3 a a1
      omega
    · exact absurd a1 (b2 a)
  · rcases hb with ⟨b1, b2, b3⟩ | ⟨b1, b2⟩
    · exact absurd b1 (a2 b)
    · rw [a1, b1]
theorem rl_Mn_iff {S S' : Nat → Prop} {k : Nat} (e : ∀ j, S j ↔ S' j) (h : rl_Mn S k) : rl_Mn S' k := by
  rcases h with ⟨a1, a2, a3⟩ | ⟨a1, a2⟩
  · exact Or.inl ⟨(e k).mp a1, a2, fun j hj => a3 j ((e j).mpr hj)⟩
  · exact Or.inr ⟨a1, fun j hj => a2 j ((e j).mpr hj)⟩
theorem rl_mn_eq {S : Nat → Prop} {k : Nat} (h : rl_Mn S k) : rl_mn S = k :=
  rl_Mn_un (Classical.epsilon_spec (p := rl_Mn S) ⟨k, h⟩) h
theorem rl_mn_spec {S : Nat → Prop} (hb : ∀ j, S j → j < 1000000) : rl_Mn S (rl_mn S) := by
  refine Classical.epsilon_spec (p := rl_Mn S) ?_
  by_cases e : ∃ k, S k
  · obtain ⟨k, hk, hm⟩ := pk_least S e
    refine ⟨k, Or.inl ⟨hk, hb k hk, fun j hj => ?_⟩⟩
    by_cases c : j < k
    · exact absurd hj (hm j c)
    · omega
  · exact ⟨1000000, Or.inr ⟨rfl, fun j hj => e ⟨j, hj⟩⟩⟩
/-- least of the first values of h, 1000000 if there is none -/
def rl_pm (h : Nat → Nat) : Nat → Nat
  | 0 => 1000000
  | x + 1 => min (rl_pm h x) (h x)
theorem rl_pm_le (h : Nat → Nat) : ∀ x, rl_pm h x ≤ 1000000 := by
  intro x
  induction x with
  | zero => exact Nat.le_refl _
  | succ x ih =>
    show min (rl_pm h x) (h x) ≤ 1000000
    omega
theorem rl_pm_lo (h : Nat → Nat) : ∀ x y, y < x → rl_pm h x ≤ h y := by
  intro x
  induction x with
  | zero => intro y hy; omega
  | succ x ih =>
    intro y hy
    show min (rl_pm h x) (h x) ≤ h y
    by_cases e : y = x
    · subst e; omega
    · have := ih y (by omega)
      omega
theorem rl_pm_at (h : Nat → Nat) : ∀ x, rl_pm h x = 1000000 ∨ ∃ y, y < x ∧ rl_pm h x = h y := by
  intro x
  induction x with
  | zero => exact Or.inl rfl
  | succ x ih =>
    have e : rl_pm h (x + 1) = min (rl_pm h x) (h x) := rfl
    by_cases c : rl_pm h x ≤ h x
    · have e2 : rl_pm h (x + 1) = rl_pm h x := by omega
      rcases ih with ih | ⟨y, hy, ih⟩
      · exact Or.inl (e2.trans ih)
      · exact Or.inr ⟨y, by omega, e2.trans ih⟩
    · exact Or.inr ⟨x, by omega, by omega⟩
theorem rl_pm_mn {h : Nat → Nat} {H : Nat → Nat → Prop} {x : Nat} (hh : ∀ y, y < x → rl_Mn (H y) (h y)) : rl_Mn (fun k => ∃ y, y < x ∧ H y k) (rl_pm h x) := by
  have lo : ∀ j, (∃ y, y < x ∧ H y j) → rl_pm h x ≤ j ∧ j = j := by
    intro j ⟨y, hy, hj⟩
    have a := rl_pm_lo h x y hy
    rcases hh y hy with ⟨_, _, a3⟩ | ⟨_, a2⟩
    · have := a3 j hj
      exact ⟨by omega, rfl⟩
    · exact absurd hj (a2 j)
  have none : rl_pm h x = 1000000 → rl_Mn (fun k => ∃ y, y < x ∧ H y k) (rl_pm h x) := by
    intro e
    refine Or.inr ⟨e, fun j ⟨y, hy, hj⟩ => ?_⟩
    have a := rl_pm_lo h x y hy
    rcases hh y hy with ⟨_, a2, _⟩ | ⟨_, a2⟩
    · omega
    · exact a2 j hj
  rcases rl_pm_at h x with e | ⟨y, hy, e⟩
  · exact none e
  · rcases hh y hy with ⟨a1, a2, a3⟩ | ⟨a1, a2⟩
    · refine Or.inl ⟨⟨y, hy, ?_⟩, by omega, fun j hj => (lo j hj).1⟩
      rw [e]; exact a1
    · exact none (by omega)
section
variable (w t g : Nat → Nat)
/-- cells f .. f + d - 1 can stand between l and r at cost k -/
def rl_A (f l : Nat) : Nat → Nat → Nat → Prop
  | 0 => fun r k => l ≤ r ∧ k = 0
  | d + 1 => fun r k => ∃ x k', x + w (f + d) ≤ r ∧ rl_A f l d x k' ∧ k = k' + g (f + d) * rl_ds x (t (f + d))
noncomputable def rl_mc (f l d r : Nat) : Nat := rl_mn (rl_A w t g f l d r)
/-- total width of cells f .. f + d - 1 -/
def rl_B (f d : Nat) : Nat := rl_sm (fun b => w (f + b)) d
/-- what a cell costs at x -/
def rl_ow (L i x : Nat) : Nat := if x + w i ≤ L then g i * rl_ds x (t i) else 1000000
noncomputable def rl_up (L i x : Nat) : Nat := min (rl_mc w t g 0 0 i x + rl_ow w t g L i x) 1000000
noncomputable def rl_dn (n L i x : Nat) : Nat := min (rl_mc w t g (i + 1) (x + w i) (n - (i + 1)) L + rl_ow w t g L i x) 1000000
end
section
variable {w t g : Nat → Nat}
theorem rl_gd {n L : Nat} (D : rl_D w t g n L) {x i : Nat} (hx : x ≤ 60) : g i * rl_ds x (t i) ≤ 300 := by
  obtain ⟨_, _, _, ht, hg⟩ := D
  have a : rl_ds x (t i) ≤ 60 := by
    have := ht i
    unfold rl_ds
    omega
  exact Nat.mul_le_mul (hg i) a
theorem rl_A_bd {n L : Nat} (D : rl_D w t g n L) {f l : Nat} : ∀ d r k, r ≤ 60 → rl_A w t g f l d r k → k ≤ d * 300 := by
  intro d
  induction d with
  | zero =>
    intro r k _ h
    have := h.2
    omega
  | succ d ih =>
    intro r k hr h
    obtain ⟨x, k', h1, h2, h3⟩ := h
    have a := ih x k' (by omega) h2
    have b := rl_gd D (x := x) (i := f + d) (by omega)
    omega
theorem rl_A_lo {f l : Nat} : ∀ d r k, rl_A w t g f l d r k → l + rl_B w f d ≤ r := by
  intro d
  induction d with
  | zero =>
    intro r k h
    exact h.1
  | succ d ih =>
    intro r k h
    obtain ⟨x, k', h1, h2, h3⟩ := h
    have a := ih x k' h2
    show l + (rl_B w f d + w (f + d)) ≤ r
    omega
theorem rl_mc_spec {n L : Nat} (D : rl_D w t g n L) {f l d r : Nat} (hr : r ≤ 60) (hd : d ≤ 10) : rl_Mn (rl_A w t g f l d r) (rl_mc w t g f l d r) :=
  rl_mn_spec (fun j hj => by have := rl_A_bd D d r j hr hj; omega)
theorem rl_mc_rg {n L : Nat} (D : rl_D w t g n L) {f l d r : Nat} (hr : r ≤ 60) (hd : d ≤ 10) : rl_mc w t g f l d r ≤ 3000 ∨ rl_mc w t g f l d r = 1000000 := by
  rcases rl_mc_spec D (f := f) (l := l) hr hd with ⟨a1, _, _⟩ | ⟨a1, _⟩
  · have := rl_A_bd D d r _ hr a1
    exact Or.inl (by omega)
  · exact Or.inr a1
theorem rl_mc_eq {f l d r k : Nat} (h : rl_Mn (rl_A w t g f l d r) k) : rl_mc w t g f l d r = k := rl_mn_eq h
theorem rl_mc_0 {f l r : Nat} (h : l ≤ r) : rl_mc w t g f l 0 r = 0 :=
  rl_mc_eq (Or.inl ⟨⟨h, rfl⟩, by decide, fun _ _ => Nat.zero_le _⟩)
/-- the set of costs with one cell at x added to S -/
theorem rl_add {L i x a : Nat} {S : Nat → Prop} (hL : x + w i ≤ L → rl_Mn S a ∧ (a ≤ 3000 ∨ a = 1000000)) (hg : x + w i ≤ L → g i * rl_ds x (t i) ≤ 300) : rl_Mn (fun k => x + w i ≤ L ∧ ∃ k', S k' ∧ k = k' + g i * rl_ds x (t i)) (min (a + rl_ow w t g L i x) 1000000) := by
  by_cases h : x + w i ≤ L
  · have e : rl_ow w t g L i x = g i * rl_ds x (t i) := if_pos h
    have b := hg h
    rw [e]
    generalize g i * rl_ds x (t i) = c at b
    obtain ⟨h1, h2⟩ := hL h
    rcases h1 with ⟨a1, a2, a3⟩ | ⟨a1, a2⟩
    · have e2 : min (a + c) 1000000 = a + c := by omega
      rw [e2]
      refine Or.inl ⟨⟨h, a, a1, rfl⟩, by omega, ?_⟩
      intro j ⟨_, k', hk, ej⟩
      have := a3 k' hk
      omega
    · refine Or.inr ⟨by omega, ?_⟩
      intro j ⟨_, k', hk, ej⟩
      exact a2 k' hk
  · have e : rl_ow w t g L i x = 1000000 := if_neg h
    rw [e]
    refine Or.inr ⟨by omega, ?_⟩
    intro j ⟨hj, _⟩
    exact h hj
theorem rl_up_mn {n L : Nat} (D : rl_D w t g n L) {i : Nat} (hi : i ≤ 9) (x : Nat) : rl_Mn (fun k => x + w i ≤ L ∧ ∃ k', rl_A w t g 0 0 i x k' ∧ k = k' + g i * rl_ds x (t i)) (rl_up w t g L i x) := by
  have hL := D.1
  exact rl_add (fun h => ⟨rl_mc_spec D (by omega) (by omega), rl_mc_rg D (by omega) (by omega)⟩) (fun h => rl_gd D (by omega))
/-- the least cost up to an edge, by the table's row -/
theorem rl_mc_up {n L : Nat} (D : rl_D w t g n L) {i r z : Nat} (hi : i ≤ 9) (hz : ∀ y, y + w i ≤ r ↔ y < z ∧ y + w i ≤ L) : rl_mc w t g 0 0 (i + 1) r = rl_pm (rl_up w t g L i) z := by
  refine rl_mc_eq (rl_Mn_iff ?_ (rl_pm_mn (fun y _ => rl_up_mn D hi y)))
  intro k
  have e : rl_A w t g 0 0 (i + 1) r k ↔ ∃ x k', x + w i ≤ r ∧ rl_A w t g 0 0 i x k' ∧ k = k' + g i * rl_ds x (t i) := by
    show (∃ x k', x + w (0 + i) ≤ r ∧ rl_A w t g 0 0 i x k' ∧ k = k' + g (0 + i) * rl_ds x (t (0 + i))) ↔ _
    rw [Nat.zero_add]
  rw [e]
  constructor
  · rintro ⟨y, hy, hL, k', h1, h2⟩
    exact ⟨y, k', (hz y).mpr ⟨hy, hL⟩, h1, h2⟩
  · rintro ⟨y, k', hr, h1, h2⟩
    have a := (hz y).mp hr
    exact ⟨y, a.1, a.2, k', h1, h2⟩
/-- the first cell taken off in front -/
theorem rl_A_front {f l : Nat} : ∀ d r k, rl_A w t g f l (d + 1) r k ↔ ∃ x k', l ≤ x ∧ rl_A w t g (f + 1) (x + w f) d r k' ∧ k = k' + g f * rl_ds x (t f) := by
  intro d
  induction d with
  | zero =>
    intro r k
    constructor
    · rintro ⟨x, k', h1, h2, h3⟩
      exact ⟨x, k', h2.1, ⟨h1, h2.2⟩, h3⟩
    · rintro ⟨x, k', h1, h2, h3⟩
      exact ⟨x, k', h2.1, ⟨h1, h2.2⟩, h3⟩
  | succ d ih =>
    intro r k
    have ef : f + (d + 1) = f + 1 + d := by omega
    constructor
    · rintro ⟨x, k', h1, h2, h3⟩
      obtain ⟨y, k2, g1, g2, g3⟩ := (ih x k').mp h2
      rw [ef] at h1 h3
      refine ⟨y, k2 + g (f + 1 + d) * rl_ds x (t (f + 1 + d)), g1, ⟨x, k2, h1, g2, rfl⟩, ?_⟩
      omega
    · rintro ⟨y, k1, g1, ⟨x, k2, h1, h2, h3⟩, g3⟩
      rw [← ef] at h1 h3
      refine ⟨x, k2 + g f * rl_ds y (t f), h1, (ih x _).mpr ⟨y, k2, g1, h2, rfl⟩, ?_⟩
      omega
theorem rl_dn_mn {n L : Nat} (D : rl_D w t g n L) {i : Nat} (x : Nat) : rl_Mn (fun k => x + w i ≤ L ∧ ∃ k', rl_A w t g (i + 1) (x + w i) (n - (i + 1)) L k' ∧ k = k' + g i * rl_ds x (t i)) (rl_dn w t g n L i x) := by
  have hL := D.1
  have hn := D.2.1
  exact rl_add (fun h => ⟨rl_mc_spec D (by omega) (by omega), rl_mc_rg D (by omega) (by omega)⟩) (fun h => rl_gd D (by omega))
/-- the least cost behind an edge, by the table's row read from its end -/
theorem rl_mc_dn {n L : Nat} (D : rl_D w t g n L) {i z : Nat} (hi : i < n) : rl_mc w t g i z (n - i) L = rl_pm (fun y => rl_dn w t g n L i (60 - y)) (61 - z) := by
  have hL := D.1
  refine rl_mc_eq (rl_Mn_iff ?_ (rl_pm_mn (fun y _ => rl_dn_mn D (60 - y))))
  intro k
  have en : n - i = n - (i + 1) + 1 := by omega
  rw [en, rl_A_front]
  constructor
  · rintro ⟨y, hy, hl, k', h1, h2⟩
    exact ⟨60 - y, k', by omega, h1, h2⟩
  · rintro ⟨x, k', hx, h1, h2⟩
    have a := rl_A_lo _ _ _ h1
    have ex : 60 - (60 - x) = x := by omega
    refine ⟨60 - x, by omega, ?_⟩
    show 60 - (60 - x) + w i ≤ L ∧ ∃ k', rl_A w t g (i + 1) (60 - (60 - x) + w i) (n - (i + 1)) L k' ∧ k = k' + g i * rl_ds (60 - (60 - x)) (t i)
    rw [ex]
    exact ⟨by omega, k', h1, h2⟩
end
end
section
/-! turning points, pure -/
/-- the points p 0 .. p (c-1), ascending and within l .. m, lie in P -/
def rl_P (l m : Nat) (P : Nat → Int32) (c : Nat) (p : Nat → Nat) : Prop := ∀ i, i < c → P i = nI (p i) ∧ l ≤ p i ∧ p i ≤ m ∧ ∀ j, j ≤ i → p j ≤ p i
def rl_S (p : Nat → Nat) (c x : Nat) : Nat := rl_sm (fun i => p i - x) c
theorem rl_S_anti {p : Nat → Nat} {c x y : Nat} (h : y ≤ x) : rl_S p c x ≤ rl_S p c y :=
  rl_sm_mono c (fun i _ => by show p i - x ≤ p i - y; omega)
theorem rl_S_0 {p : Nat → Nat} {c x : Nat} (h : ∀ i, i < c → p i ≤ x) : rl_S p c x = 0 :=
  rl_sm_zero c (fun i hi => by have := h i hi; show p i - x = 0; omega)
/-- F' is the least of F + k * distance to T over l .. x -/
def rl_PM (l m : Nat) (F : Nat → Nat) (T k : Nat) (F' : Nat → Nat) : Prop := ∀ x, l ≤ x → x ≤ m → (∀ y, l ≤ y → y ≤ x → F' x ≤ F y + k * rl_ds y T) ∧ (∃ y, l ≤ y ∧ y ≤ x ∧ F' x = F y + k * rl_ds y T)
theorem rl_PM_0 {l m T : Nat} {F : Nat → Nat} (hF : ∀ x y, y ≤ x → F x ≤ F y) : rl_PM l m F T 0 F := by
  intro x hl hm
  refine ⟨fun y _ hy => ?_, x, hl, Nat.le_refl _, ?_⟩
  · have := hF x y hy
    rw [Nat.zero_mul]
    omega
  · rw [Nat.zero_mul, Nat.add_zero]
theorem rl_PM_s {l m T k : Nat} {F F1 F2 : Nat → Nat} (hF : ∀ x y, y ≤ x → F x ≤ F y) (h1 : rl_PM l m F T k F1) (h2 : rl_PM l m F1 T 1 F2) : rl_PM l m F T (k + 1) F2 := by
  intro x hl hm
  obtain ⟨a, y, hy1, hy2, ey⟩ := h2 x hl hm
  have lo : ∀ y, l ≤ y → y ≤ x → F2 x ≤ F y + (k + 1) * rl_ds y T := by
    intro y hy1 hy2
    have b := a y hy1 hy2
    have c := (h1 y hy1 (by omega)).1 y hy1 (Nat.le_refl _)
    rw [Nat.succ_mul]
    rw [Nat.one_mul] at b
    omega
  refine ⟨lo, ?_⟩
  obtain ⟨_, z, hz1, hz2, ez⟩ := h1 y hy1 (by omega)
  rw [Nat.one_mul] at ey
  by_cases c : rl_ds z T ≤ rl_ds y T
  · have d := lo z hz1 (by omega)
    refine ⟨z, hz1, by omega, ?_⟩
    rw [Nat.succ_mul] at d ⊢
    omega
  · have d := lo y hy1 hy2
    refine ⟨y, hy1, hy2, ?_⟩
    have e := hF y z hz2
    have f : k * rl_ds y T ≤ k * rl_ds z T := Nat.mul_le_mul_left k (by omega)
    rw [Nat.succ_mul] at d ⊢
    omega
/-- one unit, nothing beyond T -/
theorem rl_unit0 {l m T c : Nat} {p q : Nat → Nat} (hT : l ≤ T) (hq : ∀ i, i < c + 1 → q i ≤ T) (hs : ∀ h : Nat → Nat, rl_sm (fun i => h (q i)) (c + 1) = rl_sm (fun i => h (p i)) c + h T) (C : Nat) : rl_PM l m (fun x => C + rl_S p c x) T 1 (fun x => C + 0 + rl_S q (c + 1) x) := by
  have e : ∀ x, rl_S q (c + 1) x = rl_S p c x + (T - x) := fun x => hs (fun v => v - x)
  intro x hl hm
  dsimp only
  constructor
  · intro y h1 h2
    have a := e x
    have b := e y
    have d := rl_S_anti (p := q) (c := c + 1) h2
    rw [Nat.one_mul]
    unfold rl_ds
    omega
  · by_cases h : x ≤ T
    · refine ⟨x, hl, Nat.le_refl _, ?_⟩
      have a := e x
      rw [Nat.one_mul]
      unfold rl_ds
      omega
    · refine ⟨T, hT, by omega, ?_⟩
      have a := e x
      have b := e T
      have d := rl_S_0 (p := q) (c := c + 1) (x := T) hq
      have f := rl_S_anti (p := q) (c := c + 1) (x := x) (y := T) (by omega)
      rw [Nat.one_mul]
      unfold rl_ds
      omega
/-- one unit, the last point Z beyond T comes back -/
theorem rl_unit1 {l m T Z c : Nat} {p q r : Nat → Nat} (hT : l ≤ T) (hZ : T < Z) (eZ : q c = Z) (hr : ∀ i, i < c + 1 → r i ≤ Z) (hs : ∀ h : Nat → Nat, rl_sm (fun i => h (q i)) (c + 1) = rl_sm (fun i => h (p i)) c + h T) (hs2 : ∀ h : Nat → Nat, rl_sm (fun i => h (r i)) (c + 1) = rl_sm (fun i => h (q i)) c + h T) (C : Nat) : rl_PM l m (fun x => C + rl_S p c x) T 1 (fun x => C + (Z - T) + rl_S r (c + 1) x) := by
  have e : ∀ x, rl_S r (c + 1) x + (Z - x) = rl_S p c x + (T - x) + (T - x) := by
    intro x
    have a : rl_sm (fun i => q i - x) c + (q c - x) = rl_sm (fun i => p i - x) c + (T - x) := hs (fun v => v - x)
    have b : rl_S r (c + 1) x = rl_sm (fun i => q i - x) c + (T - x) := hs2 (fun v => v - x)
    have d : rl_S p c x = rl_sm (fun i => p i - x) c := rfl
    rw [eZ] at a
    omega
  intro x hl hm
  dsimp only
  constructor
  · intro y h1 h2
    have b := e y
    have d := rl_S_anti (p := r) (c := c + 1) h2
    rw [Nat.one_mul]
    unfold rl_ds
    omega
  · by_cases h : x ≤ Z
    · refine ⟨x, hl, Nat.le_refl _, ?_⟩
      have a := e x
      rw [Nat.one_mul]
      unfold rl_ds
      omega
    · refine ⟨Z, by omega, by omega, ?_⟩
      have b := e Z
      have d := rl_S_0 (p := r) (c := c + 1) (x := Z) hr
      have f := rl_S_anti (p := r) (c := c + 1) (x := x) (y := Z) (by omega)
      rw [Nat.one_mul]
      unfold rl_ds
      omega
/-- a point inserted at place a of an ascending row -/
theorem rl_P_ins {l m a c T : Nat} {P P' : Nat → Int32} {p : Nat → Nat} (hP : rl_P l m P c p) (h1 : l ≤ T) (h2 : T ≤ m) (ha : a ≤ c) (hb : ∀ i, i < a → p i ≤ T) (hc : ∀ i, a ≤ i → i < c → T < p i) (e1 : ∀ i, i < a → P' i = nI (p i)) (e2 : P' a = nI T) (e3 : ∀ i, a < i → i ≤ c → P' i = nI (p (i - 1))) : ∃ q : Nat → Nat, rl_P l m P' (c + 1) q ∧ ∀ h : Nat → Nat, rl_sm (fun i => h (q i)) (c + 1) = rl_sm (fun i => h (p i)) c + h T := by
  refine ⟨fun i => if i < a then p i else if i = a then T else p (i - 1), ?_, ?_⟩
  · have q1 : ∀ i, i < a → (if i < a then p i else if i = a then T else p (i - 1)) = p i := fun i hi => if_pos hi
    have q2 : (if a < a then p a else if a = a then T else p (a - 1)) = T := by rw [if_neg (Nat.lt_irrefl a), if_pos rfl]
    have q3 : ∀ i, a < i → (if i < a then p i else if i = a then T else p (i - 1)) = p (i - 1) := fun i hi => by rw [if_neg (by omega), if_neg (by omega)]
    intro i hi
    dsimp only
    by_cases c1 : i < a
    · rw [q1 i c1]
      obtain ⟨x1, x2, x3, x4⟩ := hP i (by omega)
      refine ⟨e1 i c1, x2, x3, fun j hj => ?_⟩
      rw [q1 j (by omega)]
      exact x4 j hj
    · by_cases c2 : i = a
      · subst c2
        rw [q2]
        refine ⟨e2, h1, h2, fun j hj => ?_⟩
        by_cases c3 : j = i
        · subst c3; rw [q2]; exact Nat.le_refl _
        · rw [q1 j (by omega)]
          exact hb j (by omega)
      · rw [q3 i (by omega)]
        obtain ⟨x1, x2, x3, x4⟩ := hP (i - 1) (by omega)
        refine ⟨e3 i (by omega) (by omega), x2, x3, fun j hj => ?_⟩
        by_cases c3 : j < a
        · rw [q1 j c3]
          exact x4 j (by omega)
        · by_cases c4 : j = a
          · subst c4
            rw [q2]
            have := hc (i - 1) (by omega) (by omega)
            omega
          · rw [q3 j (by omega)]
            exact x4 (j - 1) (by omega)
  · intro h
    refine rl_sm_ins (a := a) (T := T) (q := p) h ?_ ?_ c ha ?_
    · intro i hi
      exact if_pos hi
    · show (if a < a then p a else if a = a then T else p (a - 1)) = T
      rw [if_neg (Nat.lt_irrefl a), if_pos rfl]
    · intro i hi _
      show (if i < a then p i else if i = a then T else p (i - 1)) = p (i - 1)
      rw [if_neg (by omega), if_neg (by omega)]
section
variable {w t g : Nat → Nat}
/-- after d cells the least cost within x + B is C + S x, for every x of l .. m -/
def rl_In (w t g : Nat → Nat) (f l m d C : Nat) (S : Nat → Nat) : Prop := ∀ x, l ≤ x → x ≤ m → rl_A w t g f l d (x + rl_B w f d) (C + S x) ∧ ∀ k, rl_A w t g f l d (x + rl_B w f d) k → C + S x ≤ k
theorem rl_In_0 {f l m : Nat} {p : Nat → Nat} : rl_In w t g f l m 0 0 (rl_S p 0) := by
  intro x hl _
  exact ⟨⟨hl, rfl⟩, fun k _ => Nat.zero_le _⟩
/-- the wish drawn into l .. m -/
def rl_cl (l m B t : Nat) : Nat := if t < l + B then l else if m + B < t then m else t - B
theorem rl_cl_in {l m B t : Nat} (h : l ≤ m) : l ≤ rl_cl l m B t ∧ rl_cl l m B t ≤ m := by
  unfold rl_cl
  by_cases h1 : t < l + B
  · rw [if_pos h1]; omega
  · rw [if_neg h1]
    by_cases h2 : m + B < t
    · rw [if_pos h2]; omega
    · rw [if_neg h2]; omega
theorem rl_cl_ds {l m B t y : Nat} (h1 : l ≤ y) (h2 : y ≤ m) : rl_ds (y + B) t = rl_ds y (rl_cl l m B t) + rl_ds (rl_cl l m B t + B) t := by
  unfold rl_cl rl_ds
  by_cases h1 : t < l + B
  · rw [if_pos h1]; omega
  · rw [if_neg h1]
    by_cases h2 : m + B < t
    · rw [if_pos h2]; omega
    · rw [if_neg h2]; omega
theorem rl_In_s {f l m d C C' : Nat} {S S' : Nat → Nat} (hI : rl_In w t g f l m d C S) (hP : rl_PM l m (fun x => C + g (f + d) * rl_ds (rl_cl l m (rl_B w f d) (t (f + d)) + rl_B w f d) (t (f + d)) + S x) (rl_cl l m (rl_B w f d) (t (f + d))) (g (f + d)) (fun x => C' + S' x)) : rl_In w t g f l m (d + 1) C' S' := by
  have key : ∀ y, l ≤ y → y ≤ m → C + g (f + d) * rl_ds (rl_cl l m (rl_B w f d) (t (f + d)) + rl_B w f d) (t (f + d)) + S y + g (f + d) * rl_ds y (rl_cl l m (rl_B w f d) (t (f + d))) = C + S y + g (f + d) * rl_ds (y + rl_B w f d) (t (f + d)) := by
    intro y h1 h2
    rw [rl_cl_ds (l := l) (m := m) h1 h2, Nat.mul_add]
    omega
  have eB : rl_B w f (d + 1) = rl_B w f d + w (f + d) := rfl
  intro x hl hm
  obtain ⟨a, y, hy1, hy2, ey⟩ := hP x hl hm
  dsimp only at a ey
  constructor
  · rw [key y hy1 (by omega)] at ey
    exact ⟨y + rl_B w f d, C + S y, by omega, (hI y hy1 (by omega)).1, ey⟩
  · rintro k ⟨z, k', h1, h2, h3⟩
    have lo := rl_A_lo _ _ _ h2
    have ez : z - rl_B w f d + rl_B w f d = z := by omega
    have b := a (z - rl_B w f d) (by omega) (by omega)
    rw [key (z - rl_B w f d) (by omega) (by omega), ez] at b
    have c := (hI (z - rl_B w f d) (by omega) (by omega)).2 k' (by rw [ez]; exact h2)
    omega
theorem rl_In_end {n L : Nat} (D : rl_D w t g n L) {f l r m d C c : Nat} {p : Nat → Nat} (hd : d ≤ 10) (hr : r ≤ 60) (hm : m + rl_B w f d = r) (hl : l ≤ m) (hp : ∀ i, i < c → p i ≤ m) (hI : rl_In w t g f l m d C (rl_S p c)) : rl_mc w t g f l d r = C := by
  obtain ⟨a, b⟩ := hI m hl (Nat.le_refl _)
  rw [rl_S_0 hp, Nat.add_zero, hm] at a
  rw [rl_S_0 hp, Nat.add_zero, hm] at b
  have bd := rl_A_bd D _ _ _ hr a
  exact rl_mc_eq (Or.inl ⟨a, by omega, b⟩)
theorem rl_mc_no {f l r d : Nat} (h : r < l + rl_B w f d) : rl_mc w t g f l d r = 1000000 := by
  refine rl_mc_eq (Or.inr ⟨rfl, fun j hj => ?_⟩)
  have := rl_A_lo _ _ _ hj
  omega
end
end
section
/-! the component's walks: points, widths, part costs -/
theorem rx_leS {l t B : Nat} (hl : l < 2 ^ 30) (ht : t < 2 ^ 30) (hB : B < 2 ^ 30) : nI l ≤ nI t - nI B ↔ l + B ≤ t := by
  rw [Int32.le_iff_toInt_le, pk_sub_toInt ht hB, nI_toInt (by omega)]
  omega
theorem rx_geS {m t B : Nat} (hm : m < 2 ^ 30) (ht : t < 2 ^ 30) (hB : B < 2 ^ 30) : nI t - nI B ≤ nI m ↔ t ≤ m + B := by
  rw [Int32.le_iff_toInt_le, pk_sub_toInt ht hB, nI_toInt (by omega)]
  omega
theorem rx_ss (x y z : Int32) : x - (y - z) = x + z - y := by grind
theorem rx_dist {post : Int32 → Prop} {a b : Nat} (ha : a < 2 ^ 31) (hb : b < 2 ^ 31) (K : post (nI (rl_ds a b))) : wpX_distance post (nI a) (nI b) := by
  unfold wpX_distance
  refine pk_le b a (fun h => ?_) (fun h => ?_) rfl rfl hb ha
  · rw [pk_sub h]
    have e : rl_ds a b = a - b := by unfold rl_ds; omega
    rw [e] at K
    exact K
  · rw [pk_sub (Nat.le_of_lt h)]
    have e : rl_ds a b = b - a := by unfold rl_ds; omega
    rw [e] at K
    exact K
theorem rx_distI {post : Int32 → Prop} {a b B : Nat} (ha : a < 2 ^ 30) (hb : b < 2 ^ 29) (hB : B < 2 ^ 29) (K : post (nI (rl_ds (b + B) a))) : wpX_distance post (nI a - nI B) (nI b) := by
  unfold wpX_distance
  by_cases h : b + B ≤ a
  · refine br_t ((rx_leS (by omega) ha (by omega)).mpr h) ?_
    have e : rl_ds (b + B) a = a - B - b := by unfold rl_ds; omega
    rw [pk_sub (by omega), pk_sub (by omega)]
    rw [e] at K
    exact K
  · refine br_f (fun z => h ((rx_leS (by omega) ha (by omega)).mp z)) ?_
    have e : rl_ds (b + B) a = b + B - a := by unfold rl_ds; omega
    rw [rx_ss, nI_add, pk_sub (by omega)]
    rw [e] at K
    exact K
section
variable {fl fc fp : Int32} {W Tt G P PL : Nat → Int32}
theorem rx_ap41 {post : SX → Prop} {c j T : Nat} {Q : Nat → Int32} (hj : j < 64) (h : post (fl, fc, nI (c + 1), W, Tt, G, upd Q j (nI T), PL)) : wX_addPoint_41 post (nI T) (nI j) fl fc (nI c) W Tt G Q PL := by
  unfold wX_addPoint_41
  exact ⟨vp_in_nI hj (by omega), nm_r (e' := upd Q j (nI T)) (by rw [nI_clamp (by omega)]) (nm_r (nI_1 c) h)⟩
theorem rx_ap5 {post : SX → Prop} {l m c T : Nat} {p : Nat → Nat} (hP : rl_P l m P c p) (hT1 : l ≤ T) (hT2 : T ≤ m) (hm : m ≤ 60) (hc : c ≤ 60)
    (K : ∀ (P' : Nat → Int32) (q : Nat → Nat), rl_P l m P' (c + 1) q → (∀ h : Nat → Nat, rl_sm (fun i => h (q i)) (c + 1) = rl_sm (fun i => h (p i)) c + h T) → post (fl, fc, nI (c + 1), W, Tt, G, P', PL)) :
    ∀ j, j ≤ c → ∀ Q : Nat → Int32, (∀ i, i < j → Q i = nI (p i)) → (∀ i, j < i → i ≤ c → Q i = nI (p (i - 1))) → (∀ i, j ≤ i → i < c → T < p i) → ∀ N, j < N → wX_addPoint_5 post (nI T) fl fc (nI c) N (nI j) W Tt G Q PL := by
  have fin : ∀ j, j ≤ c → ∀ Q : Nat → Int32, (∀ i, i < j → Q i = nI (p i)) → (∀ i, j < i → i ≤ c → Q i = nI (p (i - 1))) → (∀ i, j ≤ i → i < c → T < p i) → (∀ i, i < j → p i ≤ T) → wX_addPoint_41 post (nI T) (nI j) fl fc (nI c) W Tt G Q PL := by
    intro j hj Q q1 q2 q3 q4
    obtain ⟨q, h1, h2⟩ := rl_P_ins (P' := upd Q j (nI T)) hP hT1 hT2 hj q4 q3 (fun i hi => by rw [pk_un (by omega)]; exact q1 i hi) pk_us (fun i hi hk => by rw [pk_un (by omega)]; exact q2 i hi hk)
    exact rx_ap41 (by omega) (K _ q h1 h2)
  intro j
  induction j with
  | zero =>
    intro hj Q q1 q2 q3 N hN
    obtain ⟨N, rfl⟩ : ∃ M, N = M + 1 := ⟨N - 1, by omega⟩
    rw [wX_addPoint_5]
    exact br_t (nI_le (b := 0) (Nat.le_refl _) (by omega)) (fin 0 hj Q q1 q2 q3 (fun i hi => by omega))
  | succ j ih =>
    intro hj Q q1 q2 q3 N hN
    obtain ⟨N, rfl⟩ : ∃ M, N = M + 1 := ⟨N - 1, by omega⟩
    obtain ⟨a1, a2, a3, a4⟩ := hP j (by omega)
    rw [wX_addPoint_5]
    dsimp only
    rw [nI_pred, nI_clamp (n := j) (by omega), nI_clamp (n := j + 1) (by omega), pk_m1, q1 j (by omega)]
    refine br_f (nI_nle (by omega) (by omega)) ⟨vp_in_nI (by omega) (by omega), ?_⟩
    refine pk_le (p j) T (fun h => ?_) (fun h => ?_) rfl rfl (by omega) (by omega)
    · exact fin (j + 1) hj Q q1 q2 q3 (fun i hi => Nat.le_trans (a4 i (by omega)) h)
    · refine ⟨vp_in_nI (by omega) (by omega), vp_in_nI (by omega) (by omega), nm_e (nm_e ?_)⟩
      refine ih (by omega) _ ?_ ?_ ?_ N (by omega)
      · intro i hi
        rw [pk_un (by omega)]
        exact q1 i (by omega)
      · intro i hi hk
        by_cases e : i = j + 1
        · subst e
          rw [pk_us]
          rfl
        · rw [pk_un e]
          exact q2 i (by omega) hk
      · intro i hi hk
        by_cases e : i = j
        · subst e; exact h
        · exact q3 i (by omega) hk
theorem rx_addPoint {post : SX → Prop} {l m c T : Nat} {p : Nat → Nat} (hP : rl_P l m P c p) (hT1 : l ≤ T) (hT2 : T ≤ m) (hm : m ≤ 60) (hc : c ≤ 60)
    (K : ∀ (P' : Nat → Int32) (q : Nat → Nat), rl_P l m P' (c + 1) q → (∀ h : Nat → Nat, rl_sm (fun i => h (q i)) (c + 1) = rl_sm (fun i => h (p i)) c + h T) → post (fl, fc, nI (c + 1), W, Tt, G, P', PL)) :
    wpX_addPoint post (fl, fc, nI c, W, Tt, G, P, PL) (nI T) := by
  show ∃ n5 : Nat, wX_addPoint_5 post (nI T) fl fc (nI c) n5 (nI c) W Tt G P PL
  exact ⟨c + 1, rx_ap5 hP hT1 hT2 hm hc K c (Nat.le_refl _) P (fun i hi => (hP i hi).1) (fun i hi hk => by omega) (fun i hi hk => by omega) (c + 1) (by omega)⟩
theorem rx_unit {post : Int32 → SX → Prop} {l m c T : Nat} {p : Nat → Nat} (hP : rl_P l m P c p) (hT1 : l ≤ T) (hT2 : T ≤ m) (hm : m ≤ 60) (hc : c ≤ 60)
    (K : ∀ (r : Nat) (P' : Nat → Int32) (q : Nat → Nat), rl_P l m P' (c + 1) q → (∀ C, rl_PM l m (fun x => C + rl_S p c x) T 1 (fun x => C + r + rl_S q (c + 1) x)) → post (nI r) (fl, fc, nI (c + 1), W, Tt, G, P', PL)) :
    wpX_addUnit post (fl, fc, nI c, W, Tt, G, P, PL) (nI T) := by
  unfold wpX_addUnit
  dsimp only
  refine rx_addPoint hP hT1 hT2 hm hc ?_
  intro P' q hq hs
  dsimp only
  obtain ⟨a1, a2, a3, a4⟩ := hq c (by omega)
  rw [nI_pred, nI_clamp (by omega), a1]
  refine ⟨vp_in_nI (by omega) (by omega), nm_e ?_⟩
  refine pk_lt T (q c) (fun h => nm_e ?_) (fun h => ?_) rfl rfl (by omega) (by omega)
  · refine rx_addPoint (l := l) (m := q c) (c := c) (p := q) (fun i hi => ?_) hT1 (by omega) (by omega) hc ?_
    · obtain ⟨b1, b2, b3, b4⟩ := hq i (by omega)
      exact ⟨b1, b2, a4 i (by omega), b4⟩
    · intro P2 r2 hr hs2
      dsimp only
      rw [pk_sub (by omega)]
      refine K (q c - T) P2 r2 (fun i hi => ?_) (rl_unit1 hT1 h rfl (fun i hi => (hr i hi).2.2.1) hs hs2)
      obtain ⟨b1, b2, b3, b4⟩ := hr i hi
      exact ⟨b1, b2, by omega, b4⟩
  · exact K 0 P' q hq (rl_unit0 hT1 (fun i hi => Nat.le_trans (a4 i (by omega)) h) hs)
theorem rx_w5 {post : Int32 → Prop} {w : Nat → Nat} {f d : Nat} (hd : f + d ≤ 10) (K : post (nI (rl_B w f d))) : ∀ k j, j + k = d → wX_widthOf_5 post (nI (f + d)) fl fc fp (rA w) Tt G P PL (k + 1) (nI (rl_B w f j)) (nI (f + j)) := by
  intro k
  induction k with
  | zero =>
    intro j hj
    have e : j = d := by omega
    subst e
    rw [wX_widthOf_5]
    exact br_t (nI_le (Nat.le_refl _) (by omega)) K
  | succ k ih =>
    intro j hj
    rw [wX_widthOf_5]
    dsimp only
    rw [rA_cl (by omega), nI_add, nI_1]
    exact br_f (nI_ge (by omega) (by omega)) ⟨vp_in_nI (by omega) (by omega), nm_e (nm_e (ih (j + 1) (by omega)))⟩
theorem rx_width {post : Int32 → Prop} {w : Nat → Nat} {f e d : Nat} (he : f + d = e) (hd : e ≤ 10) (K : post (nI (rl_B w f d))) : wpX_widthOf post (fl, fc, fp, rA w, Tt, G, P, PL) (nI f) (nI e) := by
  subst he
  show ∃ n5 : Nat, wX_widthOf_5 post (nI (f + d)) fl fc fp (rA w) Tt G P PL n5 (nI 0) (nI f)
  exact ⟨d + 1, rx_w5 hd K d 0 (by omega)⟩
end
section
variable {fl fc : Int32} {PL : Nat → Int32} {w t g : Nat → Nat}
theorem rx_u101 {post : Int32 → SX → Prop} {J : Int32 → Int32 → Int32 → Int32 → Int32 → Int32 → (Nat → Int32) → (Nat → Int32) → (Nat → Int32) → (Nat → Int32) → (Nat → Int32) → Prop} {x2 x3 x5 : Int32} {b i T l m c0 : Nat} {F : Nat → Nat}
    (hi : i < 10) (hg : g i ≤ 5) (hT1 : l ≤ T) (hT2 : T ≤ m) (hm : m ≤ 60) (h0 : c0 ≤ 45) (hF : ∀ x y, y ≤ x → F x ≤ F y)
    (K : ∀ (C c : Nat) (P : Nat → Int32) (p : Nat → Nat), rl_P l m P c p → c ≤ c0 + 5 → rl_PM l m F T (g i) (fun x => C + rl_S p c x) → J (nI C) (nI (b + w i)) (nI (i + 1)) fl fc (nI c) (rA w) (rA t) (rA g) P PL) :
    ∀ r k, k + r = g i → ∀ (C c : Nat) (P : Nat → Int32) (p : Nat → Nat), rl_P l m P c p → c ≤ c0 + k → rl_PM l m F T k (fun x => C + rl_S p c x) → wX_partCost_101 post J x2 x3 x5 (nI b) (nI i) (nI T) (r + 1) (nI C) (nI k) fl fc (nI c) (rA w) (rA t) (rA g) P PL := by
  intro r
  induction r with
  | zero =>
    intro k hk C c P p hP hc hM
    have e : k = g i := by omega
    rw [wX_partCost_101]
    dsimp only
    rw [rA_cl (f := g) (by omega), rA_cl (f := w) (by omega), nI_add, nI_1]
    refine ⟨vp_in_nI hi (by omega), br_t (nI_le (by omega) (by omega)) ⟨vp_in_nI hi (by omega), nm_e (nm_e ?_)⟩⟩
    rw [e] at hM
    exact K C c P p hP (by omega) hM
  | succ r ih =>
    intro k hk C c P p hP hc hM
    rw [wX_partCost_101]
    dsimp only
    rw [rA_cl (f := g) (by omega)]
    refine ⟨vp_in_nI hi (by omega), br_f (nI_ge (by omega) (by omega)) ?_⟩
    refine rx_unit hP hT1 hT2 hm (by omega) ?_
    intro s P' q hq hs
    dsimp only
    refine nm_r (nI_add C s) (nm_r (nI_1 k) ?_)
    exact ih (k + 1) (by omega) (C + s) (c + 1) P' q hq (by omega) (rl_PM_s hF hM (hs C))
theorem rx_c76 {post : Int32 → SX → Prop} {J : Int32 → Int32 → Int32 → Int32 → Int32 → Int32 → (Nat → Int32) → (Nat → Int32) → (Nat → Int32) → (Nat → Int32) → (Nat → Int32) → Prop} {x2 x3 x5 z0 : Int32} {n L f d l m C c : Nat} {P : Nat → Int32} {p : Nat → Nat}
    (D : rl_D w t g n L) (hd : f + d < 10) (hl : l ≤ m) (hm : m ≤ 60) (hc : c ≤ 5 * d) (hP : rl_P l m P c p) (hI : rl_In w t g f l m d C (rl_S p c)) (hz : z0 = nI (rl_cl l m (rl_B w f d) (t (f + d))))
    (K : ∀ (C c : Nat) (P : Nat → Int32) (p : Nat → Nat), rl_P l m P c p → c ≤ 5 * (d + 1) → rl_In w t g f l m (d + 1) C (rl_S p c) → J (nI C) (nI (rl_B w f (d + 1))) (nI (f + d + 1)) fl fc (nI c) (rA w) (rA t) (rA g) P PL) :
    wX_partCost_76 post J x2 x3 x5 (nI C) (nI (rl_B w f d)) (nI (f + d)) (nI (t (f + d)) - nI (rl_B w f d)) z0 fl fc (nI c) (rA w) (rA t) (rA g) P PL := by
  obtain ⟨_, _, hw, ht, hg⟩ := D
  have hcl := rl_cl_in (l := l) (m := m) (B := rl_B w f d) (t := t (f + d)) hl
  have hB : rl_B w f d ≤ d * 5 := rl_sm_le d (fun i _ => hw _)
  have htt := ht (f + d)
  have hgg := hg (f + d)
  subst hz
  unfold wX_partCost_76
  refine ⟨vp_in_nI hd (by omega), rx_distI (by omega) (by omega) (by omega) ?_⟩
  refine nm_r (e' := nI (C + g (f + d) * rl_ds (rl_cl l m (rl_B w f d) (t (f + d)) + rl_B w f d) (t (f + d)))) ?_ ?_
  · rw [rA_cl (by omega), pk_mul, nI_add]
  · refine ⟨g (f + d) + 1, ?_⟩
    refine rx_u101 (l := l) (m := m) (c0 := 5 * d) (F := fun x => C + g (f + d) * rl_ds (rl_cl l m (rl_B w f d) (t (f + d)) + rl_B w f d) (t (f + d)) + rl_S p c x) hd hgg hcl.1 hcl.2 hm (by omega) ?_ ?_ (g (f + d)) 0 (by omega) _ c P p hP (by omega) (rl_PM_0 ?_)
    · intro x y hxy
      have := rl_S_anti (p := p) (c := c) hxy
      omega
    · intro C' c' P' p' hP' hc' hM
      exact K C' c' P' p' hP' (by omega) (rl_In_s hI hM)
    · intro x y hxy
      have := rl_S_anti (p := p) (c := c) hxy
      omega
theorem rx_c34 {post : Int32 → SX → Prop} {n L f e l m : Nat}
    (D : rl_D w t g n L) (he : f + e ≤ 10) (hl : l ≤ m) (hm : m ≤ 60)
    (K : ∀ (C c : Nat) (P : Nat → Int32) (p : Nat → Nat), rl_P l m P c p → rl_In w t g f l m e C (rl_S p c) → post (nI C) (fl, fc, nI c, rA w, rA t, rA g, P, PL)) :
    ∀ r d, d + r = e → ∀ (C c : Nat) (P : Nat → Int32) (p : Nat → Nat), rl_P l m P c p → c ≤ 5 * d → rl_In w t g f l m d C (rl_S p c) → wX_partCost_34 post (nI (f + e)) (nI l) (nI m) (r + 1) (nI C) (nI (rl_B w f d)) (nI (f + d)) fl fc (nI c) (rA w) (rA t) (rA g) P PL := by
  intro r
  induction r with
  | zero =>
    intro d hd C c P p hP hc hI
    have e2 : d = e := by omega
    subst e2
    rw [wX_partCost_34]
    exact br_t (nI_le (Nat.le_refl _) (by omega)) (K C c P p hP hI)
  | succ r ih =>
    intro d hd C c P p hP hc hI
    have hB : rl_B w f d ≤ d * 5 := rl_sm_le d (fun i _ => D.2.2.1 _)
    have htt := D.2.2.2.1 (f + d)
    have go : ∀ z0 : Int32, z0 = nI (rl_cl l m (rl_B w f d) (t (f + d))) → wX_partCost_76 post (wX_partCost_34 post (nI (f + e)) (nI l) (nI m) (r + 1)) (nI (f + e)) (nI l) (nI m) (nI C) (nI (rl_B w f d)) (nI (f + d)) (nI (t (f + d)) - nI (rl_B w f d)) z0 fl fc (nI c) (rA w) (rA t) (rA g) P PL := by
      intro z0 hz
      refine rx_c76 D (by omega) hl hm hc hP hI hz ?_
      intro C' c' P' p' hP' hc' hI'
      exact ih (d + 1) (by omega) C' c' P' p' hP' hc' hI'
    rw [wX_partCost_34]
    dsimp only
    rw [rA_cl (by omega)]
    refine br_f (nI_ge (by omega) (by omega)) ⟨vp_in_nI (by omega) (by omega), nm_e ?_⟩
    by_cases h1 : l + rl_B w f d ≤ t (f + d)
    · refine br_t ((rx_leS (by omega) (by omega) (by omega)).mpr h1) ?_
      by_cases h2 : t (f + d) ≤ m + rl_B w f d
      · refine br_t ((rx_geS (by omega) (by omega) (by omega)).mpr h2) (go _ ?_)
        rw [pk_sub (by omega)]
        unfold rl_cl
        rw [if_neg (by omega), if_neg (by omega)]
      · refine br_f (fun z => h2 ((rx_geS (by omega) (by omega) (by omega)).mp z)) (go _ ?_)
        unfold rl_cl
        rw [if_neg (by omega), if_pos (by omega)]
    · refine br_f (fun z => h1 ((rx_leS (by omega) (by omega) (by omega)).mp z)) (go _ ?_)
      unfold rl_cl
      rw [if_pos (by omega)]
/-- how an answer is coded -/
def rl_an (k : Nat) : Int32 := if k = 1000000 then -6 else nI k
theorem rl_an_n : rl_an 1000000 = -6 := if_pos rfl
theorem rl_an_p {k : Nat} (h : k ≠ 1000000) : rl_an k = nI k := if_neg h
theorem rl_nI6 {k : Nat} (h : k < 2 ^ 31) : ¬ nI k = -6 := by
  intro e
  have a := congrArg Int32.toInt e
  rw [nI_toInt h, show (-6 : Int32).toInt = -6 from by decide] at a
  omega
theorem rx_part {post : Int32 → SX → Prop} {n L f e d l r : Nat} {fp : Int32} {P : Nat → Int32} (D : rl_D w t g n L) (he : f + d = e) (h10 : e ≤ 10) (hl : l ≤ 100) (hr : r ≤ 60)
    (K : ∀ (fp : Int32) (P : Nat → Int32), post (rl_an (rl_mc w t g f l d r)) (fl, fc, fp, rA w, rA t, rA g, P, PL)) :
    wpX_partCost post (fl, fc, fp, rA w, rA t, rA g, P, PL) (nI f) (nI e) (nI l) (nI r) := by
  have hB : rl_B w f d ≤ d * 5 := rl_sm_le d (fun i _ => D.2.2.1 _)
  subst he
  unfold wpX_partCost
  dsimp only
  refine rx_width rfl h10 ?_
  by_cases h : l + rl_B w f d ≤ r
  · refine nm_r (pk_sub (by omega)) ?_
    refine br_t (nI_le (by omega) (by omega)) ⟨d + 1, ?_⟩
    refine rx_c34 (f := f) (e := d) D h10 (by omega) (by omega) ?_ d 0 (by omega) 0 0 P (fun _ => 0) (fun i hi => by omega) (by omega) rl_In_0
    intro C c P' p hP hI
    have e := rl_In_end D (r := r) (by omega) hr (by omega) (by omega) (fun i hi => (hP i hi).2.2.1) hI
    have k := K (nI c) P'
    have hb := rl_mc_rg D (f := f) (l := l) (d := d) (r := r) hr (by omega)
    have hs : C ≠ 1000000 := by
      intro e2
      have a := rl_mc_spec D (f := f) (l := l) (d := d) (r := r) hr (by omega)
      rw [e] at a
      rcases a with ⟨_, a2, _⟩ | ⟨_, a2⟩
      · omega
      · have a3 := (hI (r - rl_B w f d) (by omega) (Nat.le_refl _)).1
        rw [show r - rl_B w f d + rl_B w f d = r by omega] at a3
        exact a2 _ a3
    rw [e, rl_an_p hs] at k
    exact k
  · refine nm_e (br_f (fun z => h ((rx_leS (by omega) (by omega) (by omega)).mp z)) ?_)
    have k := K fp P
    rw [rl_mc_no (by omega), rl_an_n] at k
    exact k
/-- upTo at a place within -/
theorem rx_upTo {post : Int32 → SX → Prop} {n L c x r : Nat} {fp : Int32} {P : Nat → Int32} (D : rl_D w t g n L) (hc : c < 10) (hx : x ≤ 60) (hr : r ≤ 60)
    (K : ∀ (fp : Int32) (P : Nat → Int32), post (rl_an (rl_up w t g r c x)) (fl, fc, fp, rA w, rA t, rA g, P, PL)) :
    wpX_upTo post (fl, fc, fp, rA w, rA t, rA g, P, PL) (nI c) (nI x) (nI r) := by
  have hw := D.2.2.1 c
  have ht := D.2.2.2.1 c
  have hgd := rl_gd D (x := x) (i := c) hx
  unfold wpX_upTo
  dsimp only
  rw [rA_cl (by omega)]
  refine br_f (nI_pos (by omega)) ⟨vp_in_nI hc (by omega), ?_⟩
  by_cases h : x + w c ≤ r
  · refine br_t ((rx_leS (by omega) (by omega) (by omega)).mpr h) ?_
    refine rx_part (f := 0) (l := 0) D (Nat.zero_add c) (by omega) (by omega) hx ?_
    intro fp' P'
    dsimp only
    have eo : rl_ow w t g r c x = g c * rl_ds x (t c) := if_pos h
    have k := K fp' P'
    rcases rl_mc_rg D (f := 0) (l := 0) (d := c) (r := x) hx (by omega) with hm | hm
    · rw [rl_an_p (by omega)]
      refine br_f (rl_nI6 (by omega)) ⟨vp_in_nI hc (by omega), vp_in_nI hc (by omega), ?_⟩
      rw [rA_cl (by omega), rA_cl (by omega)]
      refine rx_dist (by omega) (by omega) ?_
      rw [pk_mul, nI_add]
      have eu : rl_up w t g r c x = rl_mc w t g 0 0 c x + g c * rl_ds x (t c) := by
        unfold rl_up
        rw [eo]
        omega
      rw [eu, rl_an_p (by omega)] at k
      exact k
    · rw [hm, rl_an_n]
      refine br_t rfl ?_
      have eu : rl_up w t g r c x = 1000000 := by
        unfold rl_up
        rw [hm]
        omega
      rw [eu, rl_an_n] at k
      exact k
  · refine br_f (fun z => h ((rx_leS (by omega) (by omega) (by omega)).mp z)) ?_
    have eo : rl_ow w t g r c x = 1000000 := if_neg h
    have k := K fp P
    have eu : rl_up w t g r c x = 1000000 := by
      unfold rl_up
      rw [eo]
      omega
    rw [eu, rl_an_n] at k
    exact k
end
end
section
/-! the reference's walks: tables -/
section
variable {fc : Int32} {U Dn Ch : Nat → Int32} {w t g : Nat → Nat} {n L : Nat}
theorem ry_ix (i x : Nat) : nI i * 61 + nI x = nI (i * 61 + x) := by
  rw [show (61 : Int32) = nI 61 from rfl, pk_mul, nI_add]
theorem ry_own {post : Int32 → Prop} {i x : Nat} (D : rl_D w t g n L) (hi : i < 10) (hx : x ≤ 60) (K : post (nI (rl_ow w t g L i x))) : wpY_own post (nI L, fc, rA w, rA t, rA g, U, Dn, Ch) (nI i) (nI x) := by
  have hL := D.1
  have hw := D.2.2.1 i
  have ht := D.2.2.2.1 i
  unfold wpY_own
  dsimp only
  rw [rA_cl (f := w) (by omega), rA_cl (f := t) (by omega), nI_add]
  refine br_f (nI_pos (by omega)) ⟨vp_in_nI hi (by omega), ?_⟩
  refine pk_le (x + w i) L (fun h => ⟨vp_in_nI hi (by omega), ?_⟩) (fun h => ?_) rfl rfl (by omega) (by omega)
  · have e : rl_ow w t g L i x = g i * rl_ds x (t i) := if_pos h
    rw [e] at K
    refine pk_le (t i) x (fun h2 => ⟨vp_in_nI hi (by omega), ?_⟩) (fun h2 => ⟨vp_in_nI hi (by omega), ?_⟩) rfl rfl (by omega) (by omega)
    · unfold wY_own_51
      rw [rA_cl (by omega), pk_sub h2, pk_mul]
      have e2 : rl_ds x (t i) = x - t i := by unfold rl_ds; omega
      rw [e2] at K
      exact ⟨vp_in_nI hi (by omega), K⟩
    · unfold wY_own_51
      rw [rA_cl (by omega), pk_sub (Nat.le_of_lt h2), pk_mul]
      have e2 : rl_ds x (t i) = t i - x := by unfold rl_ds; omega
      rw [e2] at K
      exact ⟨vp_in_nI hi (by omega), K⟩
  · have e : rl_ow w t g L i x = 1000000 := if_neg (by omega)
    rw [e] at K
    exact K
theorem ry_least {post : Int32 → Prop} {u : SY} {a b : Nat} (ha : a < 2 ^ 31) (hb : b < 2 ^ 31) (K : post (nI (min a b))) : wpY_least post u (nI a) (nI b) := by
  obtain ⟨x1, x2, x3, x4, x5, x6, x7, x8⟩ := u
  unfold wpY_least
  dsimp only
  refine pk_le b a (fun h => ?_) (fun h => ?_) rfl rfl hb ha
  · rw [show min a b = b by omega] at K
    exact K
  · rw [show min a b = a by omega] at K
    exact K
theorem ry_sum {post : Int32 → Prop} {u : SY} {a b : Nat} (ha : a ≤ 1000000) (hb : b ≤ 1000000) (K : post (nI (min (a + b) 1000000))) : wpY_sum post u (nI a) (nI b) := by
  obtain ⟨x1, x2, x3, x4, x5, x6, x7, x8⟩ := u
  unfold wpY_sum
  dsimp only
  rw [nI_add]
  exact ry_least (b := 1000000) (by omega) (by omega) K
theorem rl_ow_le (D : rl_D w t g n L) {i x : Nat} : rl_ow w t g L i x ≤ 1000000 := by
  have hL := D.1
  unfold rl_ow
  by_cases h : x + w i ≤ L
  · rw [if_pos h]
    have := rl_gd D (x := x) (i := i) (by omega)
    omega
  · rw [if_neg h]; omega
theorem rl_up_le {L i x : Nat} : rl_up w t g L i x ≤ 1000000 := by
  unfold rl_up; omega
theorem rl_dn_le {n L i x : Nat} : rl_dn w t g n L i x ≤ 1000000 := by
  unfold rl_dn; omega
/-- rows below i of a table hold h -/
def ry_R (h : Nat → Nat → Nat) (i : Nat) (U : Nat → Int32) : Prop := ∀ j, j < i → ∀ x, x < 61 → U (j * 61 + x) = nI (h j x)
noncomputable def rl_rb (w t g : Nat → Nat) (L i x : Nat) : Nat := if i = 0 then 0 else rl_pm (rl_up w t g L (i - 1)) (x - w (i - 1))
theorem rl_rb_le {i x : Nat} : rl_rb w t g L i x ≤ 1000000 := by
  unfold rl_rb
  by_cases h : i = 0
  · rw [if_pos h]; omega
  · rw [if_neg h]; exact rl_pm_le _ _
theorem rl_up_rb (D : rl_D w t g n L) {i x : Nat} (hi : i ≤ 9) : min (rl_rb w t g L i (x + 1) + rl_ow w t g L i x) 1000000 = rl_up w t g L i x := by
  unfold rl_up
  by_cases h : x + w i ≤ L
  · have e : rl_rb w t g L i (x + 1) = rl_mc w t g 0 0 i x := by
      unfold rl_rb
      by_cases h0 : i = 0
      · subst h0
        rw [if_pos rfl, rl_mc_0 (Nat.zero_le _)]
      · rw [if_neg h0]
        obtain ⟨k, rfl⟩ : ∃ k, i = k + 1 := ⟨i - 1, by omega⟩
        refine (rl_mc_up D (i := k) (r := x) (z := x + 1 - w (k + 1 - 1)) (by omega) ?_).symm
        intro y
        rw [Nat.add_sub_cancel]
        omega
    rw [e]
  · have e : rl_ow w t g L i x = 1000000 := if_neg h
    rw [e]
    omega
theorem ry_f74 {post : SY → Prop} {J2 : Int32 → (Nat → Int32) → (Nat → Int32) → (Nat → Int32) → (Nat → Int32) → (Nat → Int32) → (Nat → Int32) → Prop} {J21 : Int32 → Int32 → (Nat → Int32) → (Nat → Int32) → (Nat → Int32) → (Nat → Int32) → (Nat → Int32) → (Nat → Int32) → Prop} {x1 : Int32} {i b x : Nat} (D : rl_D w t g n L) (hi : i < 10) (hx : x ≤ 60) (hb : b ≤ 1000000)
    (K : J21 (nI b) (nI (x + 1)) (rA w) (rA t) (rA g) (upd U (i * 61 + x) (nI (min (b + rl_ow w t g L i x) 1000000))) Dn Ch) :
    wY_fillUp_74 post J2 J21 x1 (nI i) (nI b) (nI x) (nI L) fc (rA w) (rA t) (rA g) U Dn Ch := by
  unfold wY_fillUp_74
  refine ry_own D hi hx ?_
  refine ry_sum hb (rl_ow_le D) ?_
  rw [ry_ix, nI_clamp (by omega), nI_1]
  exact ⟨vp_in_nI (by omega) (by omega), nm_e (nm_e K)⟩
theorem ry_f21 {post : SY → Prop} {J2 : Int32 → (Nat → Int32) → (Nat → Int32) → (Nat → Int32) → (Nat → Int32) → (Nat → Int32) → (Nat → Int32) → Prop} {x1 : Int32} {i : Nat} (D : rl_D w t g n L) (hi : i < 10)
    (K : ∀ U : Nat → Int32, ry_R (rl_up w t g L) (i + 1) U → J2 (nI (i + 1)) (rA w) (rA t) (rA g) U Dn Ch) :
    ∀ r x, x + r = 61 → ∀ U : Nat → Int32, ry_R (rl_up w t g L) i U → (∀ y, y < x → U (i * 61 + y) = nI (rl_up w t g L i y)) → wY_fillUp_21 post J2 x1 (nI i) (nI L) fc (r + 1) (nI (rl_rb w t g L i x)) (nI x) (rA w) (rA t) (rA g) U Dn Ch := by
  intro r
  induction r with
  | zero =>
    intro x hx U hR hr
    rw [wY_fillUp_21]
    refine br_t (nI_le (a := 61) (by omega) (by omega)) (nm_r (nI_1 i) (K U ?_))
    intro j hj y hy
    by_cases e : j = i
    · subst e; exact hr y (by omega)
    · exact hR j (by omega) y hy
  | succ r ih =>
    intro x hx U hR hr
    have step : wY_fillUp_74 post J2 (wY_fillUp_21 post J2 x1 (nI i) (nI L) fc (r + 1)) x1 (nI i) (nI (rl_rb w t g L i (x + 1))) (nI x) (nI L) fc (rA w) (rA t) (rA g) U Dn Ch := by
      refine ry_f74 D hi (by omega) rl_rb_le ?_
      rw [rl_up_rb D (by omega)]
      refine ih (x + 1) (by omega) _ ?_ ?_
      · intro j hj y hy
        rw [pk_un (by omega)]
        exact hR j hj y hy
      · intro y hy
        by_cases e : y = x
        · subst e; rw [pk_us]
        · rw [pk_un (by omega)]
          exact hr y (by omega)
    rw [wY_fillUp_21]
    dsimp only
    refine br_f (nI_ge (b := 61) (by omega) (by omega)) ?_
    refine pk_eq i 0 (fun h0 => ?_) (fun h0 => ?_) rfl rfl (by omega) (by omega)
    · unfold wY_fillUp_47
      refine br_t (by decide) ?_
      have e : rl_rb w t g L i (x + 1) = rl_rb w t g L i x := by
        unfold rl_rb
        rw [if_pos h0, if_pos h0]
      rw [e] at step
      exact step
    · obtain ⟨k, rfl⟩ : ∃ k, i = k + 1 := ⟨i - 1, by omega⟩
      have hw := D.2.2.1 k
      rw [nI_pred, rA_cl (by omega)]
      refine ⟨vp_in_nI (by omega) (by omega), ?_⟩
      unfold wY_fillUp_47
      by_cases hwx : x < w k
      · refine br_t (by rw [Int32.lt_iff_toInt_lt, pk_sub_toInt (by omega) (by omega), show (0 : Int32).toInt = 0 from by decide]; omega) ?_
        have e : rl_rb w t g L (k + 1) (x + 1) = rl_rb w t g L (k + 1) x := by
          unfold rl_rb
          rw [if_neg h0, if_neg h0, Nat.add_sub_cancel, show x + 1 - w k = x - w k by omega]
        rw [e] at step
        exact step
      · rw [pk_sub (by omega), nI_pred, ry_ix, nI_clamp (by omega)]
        refine br_f (nI_pos (by omega)) ⟨vp_in_nI (by omega) (by omega), ?_⟩
        rw [hR k (by omega) (x - w k) (by omega)]
        have e : rl_rb w t g L (k + 1) (x + 1) = min (rl_rb w t g L (k + 1) x) (rl_up w t g L k (x - w k)) := by
          unfold rl_rb
          rw [if_neg h0, if_neg h0, Nat.add_sub_cancel, show x + 1 - w k = (x - w k) + 1 by omega]
          rfl
        have b1 := rl_rb_le (w := w) (t := t) (g := g) (L := L) (i := k + 1) (x := x)
        have b2 := rl_up_le (w := w) (t := t) (g := g) (L := L) (i := k) (x := x - w k)
        refine ry_least (by omega) (by omega) ?_
        rw [e] at step
        exact step
theorem ry_f2 {post : SY → Prop} {m : Nat} (D : rl_D w t g n L) (hm : m ≤ 10) (K : ∀ U : Nat → Int32, ry_R (rl_up w t g L) m U → post (nI L, fc, rA w, rA t, rA g, U, Dn, Ch)) :
    ∀ r i, i + r = m → ∀ U : Nat → Int32, ry_R (rl_up w t g L) i U → wY_fillUp_2 post (nI m) (nI L) fc (r + 1) (nI i) (rA w) (rA t) (rA g) U Dn Ch := by
  intro r
  induction r with
  | zero =>
    intro i hi U hR
    have e : i = m := by omega
    subst e
    rw [wY_fillUp_2]
    exact br_t (nI_le (Nat.le_refl _) (by omega)) (K U hR)
  | succ r ih =>
    intro i hi U hR
    have go : wY_fillUp_21 post (wY_fillUp_2 post (nI m) (nI L) fc (r + 1)) (nI m) (nI i) (nI L) fc (61 + 1) (nI (rl_rb w t g L i 0)) (nI 0) (rA w) (rA t) (rA g) U Dn Ch :=
      ry_f21 D (by omega) (fun U' h' => ih (i + 1) (by omega) U' h') 61 0 (by omega) U hR (fun y hy => by omega)
    rw [wY_fillUp_2]
    dsimp only
    refine br_f (nI_ge (by omega) (by omega)) ?_
    refine pk_eq i 0 (fun h0 => ⟨62, ?_⟩) (fun h0 => ⟨62, ?_⟩) rfl rfl (by omega) (by omega)
    · have e : rl_rb w t g L i 0 = 0 := by unfold rl_rb; rw [if_pos h0]
      rw [e] at go
      exact go
    · have e : rl_rb w t g L i 0 = 1000000 := by
        unfold rl_rb
        rw [if_neg h0, Nat.zero_sub]
        rfl
      rw [e] at go
      exact go
theorem ry_fillUp {post : SY → Prop} {m : Nat} (D : rl_D w t g n L) (hm : m ≤ 10) (K : ∀ U : Nat → Int32, ry_R (rl_up w t g L) m U → post (nI L, fc, rA w, rA t, rA g, U, Dn, Ch)) : wpY_fillUp post (nI L, fc, rA w, rA t, rA g, U, Dn, Ch) (nI m) := by
  show ∃ n2 : Nat, wY_fillUp_2 post (nI m) (nI L) fc n2 (nI 0) (rA w) (rA t) (rA g) U Dn Ch
  exact ⟨m + 1, ry_f2 D hm K m 0 (by omega) U (fun j hj => by omega)⟩
theorem ry_l5 {post : Int32 → Prop} {h : Nat → Nat} {i : Nat} {fl : Int32} {W T G : Nat → Int32} (hi : i < 10) (hU : ∀ x, x < 61 → U (i * 61 + x) = nI (h x)) (hh : ∀ x, h x ≤ 1000000) (K : post (nI (rl_pm h 61))) :
    ∀ r x, x + r = 61 → wY_leastUp_5 post (nI i) fl fc W T G U Dn Ch (r + 1) (nI (rl_pm h x)) (nI x) := by
  intro r
  induction r with
  | zero =>
    intro x hx
    have e : x = 61 := by omega
    subst e
    rw [wY_leastUp_5]
    exact br_t (nI_le (a := 61) (by omega) (by omega)) K
  | succ r ih =>
    intro x hx
    have b1 := rl_pm_le h x
    have b2 := hh x
    rw [wY_leastUp_5]
    dsimp only
    rw [ry_ix, nI_clamp (by omega), hU x (by omega), nI_1]
    refine br_f (nI_ge (b := 61) (by omega) (by omega)) ⟨vp_in_nI (by omega) (by omega), ?_⟩
    exact ry_least (by omega) (by omega) (nm_e (ih (x + 1) (by omega)))
theorem ry_leastUp {post : Int32 → Prop} {i : Nat} (D : rl_D w t g n L) (hi : i < 10) (hU : ry_R (rl_up w t g L) (i + 1) U) (K : post (nI (rl_mc w t g 0 0 (i + 1) L))) : wpY_leastUp post (nI L, fc, rA w, rA t, rA g, U, Dn, Ch) (nI i) := by
  have hL := D.1
  rw [rl_mc_up D (z := 61) (by omega) (fun y => by omega)] at K
  show ∃ n5 : Nat, wY_leastUp_5 post (nI i) (nI L) fc (rA w) (rA t) (rA g) U Dn Ch n5 (nI 1000000) (nI 0)
  exact ⟨61 + 1, ry_l5 hi (fun x hx => hU i (by omega) x hx) (fun x => rl_up_le) K 61 0 (by omega)⟩
/-- rows from i on of the table down -/
def ry_Q (h : Nat → Nat → Nat) (n i : Nat) (U : Nat → Int32) : Prop := ∀ j, i ≤ j → j < n → ∀ x, x < 61 → U (j * 61 + x) = nI (h j x)
noncomputable def rl_qb (w t g : Nat → Nat) (n L i x : Nat) : Nat := if i + 1 = n then 0 else rl_pm (fun y => rl_dn w t g n L (i + 1) (60 - y)) (61 - (x + w i))
theorem rl_qb_le {i x : Nat} : rl_qb w t g n L i x ≤ 1000000 := by
  unfold rl_qb
  by_cases h : i + 1 = n
  · rw [if_pos h]; omega
  · rw [if_neg h]; exact rl_pm_le _ _
theorem rl_dn_qb (D : rl_D w t g n L) {i x : Nat} (hi : i < n) : min (rl_qb w t g n L i x + rl_ow w t g L i x) 1000000 = rl_dn w t g n L i x := by
  unfold rl_dn
  by_cases h : x + w i ≤ L
  · have e : rl_qb w t g n L i x = rl_mc w t g (i + 1) (x + w i) (n - (i + 1)) L := by
      unfold rl_qb
      by_cases h0 : i + 1 = n
      · rw [if_pos h0, show n - (i + 1) = 0 by omega, rl_mc_0 h]
      · rw [if_neg h0]
        exact (rl_mc_dn D (by omega)).symm
    rw [e]
  · have e : rl_ow w t g L i x = 1000000 := if_neg h
    rw [e]
    omega
theorem ry_d82 {post : SY → Prop} {J7 : Int32 → (Nat → Int32) → (Nat → Int32) → (Nat → Int32) → (Nat → Int32) → (Nat → Int32) → (Nat → Int32) → Prop} {J31 : Int32 → Int32 → (Nat → Int32) → (Nat → Int32) → (Nat → Int32) → (Nat → Int32) → (Nat → Int32) → (Nat → Int32) → Prop} {i b x : Nat} (D : rl_D w t g n L) (hi : i < 10) (hx : x ≤ 60) (hb : b ≤ 1000000)
    (K : J31 (nI b) (nI x + (-1)) (rA w) (rA t) (rA g) U (upd Dn (i * 61 + x) (nI (min (b + rl_ow w t g L i x) 1000000))) Ch) :
    wY_fillDown_82 post J7 J31 (nI i) (nI b) (nI x) (nI L) fc (rA w) (rA t) (rA g) U Dn Ch := by
  unfold wY_fillDown_82
  refine ry_own D hi hx ?_
  refine ry_sum hb (rl_ow_le D) ?_
  rw [ry_ix, nI_clamp (by omega)]
  exact ⟨vp_in_nI (by omega) (by omega), nm_e (nm_e K)⟩
theorem ry_neg1 : nI 0 + (-1) < 0 := by decide
theorem ry_d31 {post : SY → Prop} {J7 : Int32 → (Nat → Int32) → (Nat → Int32) → (Nat → Int32) → (Nat → Int32) → (Nat → Int32) → (Nat → Int32) → Prop} {i : Nat} (D : rl_D w t g n L) (hi : i < n)
    (K : ∀ Dn : Nat → Int32, ry_Q (rl_dn w t g n L) n i Dn → J7 (nI i + (-1)) (rA w) (rA t) (rA g) U Dn Ch) :
    ∀ x, x ≤ 60 → ∀ Dn : Nat → Int32, ry_Q (rl_dn w t g n L) n (i + 1) Dn → (∀ y, x < y → y < 61 → Dn (i * 61 + y) = nI (rl_dn w t g n L i y)) → ∀ N, x + 2 ≤ N → wY_fillDown_31 post J7 (nI i) (nI L) (nI n) N (nI (rl_qb w t g n L i (x + 1))) (nI x) (rA w) (rA t) (rA g) U Dn Ch := by
  have hn := D.2.1
  have hw := D.2.2.1 i
  -- the body at x, whatever comes behind it
  have body : ∀ x, x ≤ 60 → ∀ (Dn : Nat → Int32) (M : Nat), ry_Q (rl_dn w t g n L) n (i + 1) Dn → wY_fillDown_31 post J7 (nI i) (nI L) (nI n) M (nI (rl_qb w t g n L i x)) (nI x + (-1)) (rA w) (rA t) (rA g) U (upd Dn (i * 61 + x) (nI (rl_dn w t g n L i x))) Ch → wY_fillDown_31 post J7 (nI i) (nI L) (nI n) (M + 1) (nI (rl_qb w t g n L i (x + 1))) (nI x) (rA w) (rA t) (rA g) U Dn Ch := by
    intro x hx Dn M hQ H
    have step : wY_fillDown_82 post J7 (wY_fillDown_31 post J7 (nI i) (nI L) (nI n) M) (nI i) (nI (rl_qb w t g n L i x)) (nI x) (nI L) (nI n) (rA w) (rA t) (rA g) U Dn Ch := by
      refine ry_d82 D (by omega) hx rl_qb_le ?_
      rw [rl_dn_qb D hi]
      exact H
    rw [wY_fillDown_31]
    dsimp only
    obtain ⟨k, rfl⟩ : ∃ k, n = k + 1 := ⟨n - 1, by omega⟩
    rw [rA_cl (by omega), nI_add, nI_pred, nI_1]
    refine br_f (nI_pos (by omega)) ⟨vp_in_nI (by omega) (by omega), nm_e ?_⟩
    refine pk_le k i (fun h => ?_) (fun h => ?_) rfl rfl (by omega) (by omega)
    · have e : rl_qb w t g (k + 1) L i (x + 1) = rl_qb w t g (k + 1) L i x := by
        unfold rl_qb
        rw [if_pos (by omega), if_pos (by omega)]
      rw [e]
      exact step
    · refine pk_le 61 (x + w i) (fun h2 => ?_) (fun h2 => ?_) rfl rfl (by omega) (by omega)
      · have e : rl_qb w t g (k + 1) L i (x + 1) = rl_qb w t g (k + 1) L i x := by
          unfold rl_qb
          rw [if_neg (by omega), if_neg (by omega), show 61 - (x + 1 + w i) = 61 - (x + w i) by omega]
        rw [e]
        exact step
      · rw [ry_ix, nI_clamp (by omega), hQ (i + 1) (by omega) (by omega) (x + w i) (by omega)]
        refine ⟨vp_in_nI (by omega) (by omega), ?_⟩
        have e : rl_qb w t g (k + 1) L i x = min (rl_qb w t g (k + 1) L i (x + 1)) (rl_dn w t g (k + 1) L (i + 1) (x + w i)) := by
          unfold rl_qb
          rw [if_neg (by omega), if_neg (by omega), show 61 - (x + w i) = (60 - (x + w i)) + 1 by omega, show 61 - (x + 1 + w i) = 60 - (x + w i) by omega]
          show min _ (rl_dn w t g (k + 1) L (i + 1) (60 - (60 - (x + w i)))) = _
          rw [show 60 - (60 - (x + w i)) = x + w i by omega]
        have b1 := rl_qb_le (w := w) (t := t) (g := g) (n := k + 1) (L := L) (i := i) (x := x + 1)
        have b2 := rl_dn_le (w := w) (t := t) (g := g) (n := k + 1) (L := L) (i := i + 1) (x := x + w i)
        refine ry_least (by omega) (by omega) ?_
        rw [e] at step
        exact step
  have upQ : ∀ (Dn : Nat → Int32) (x : Nat), x ≤ 60 → ry_Q (rl_dn w t g n L) n (i + 1) Dn → ry_Q (rl_dn w t g n L) n (i + 1) (upd Dn (i * 61 + x) (nI (rl_dn w t g n L i x))) := by
    intro Dn x hx hQ j h1 h2 y hy
    rw [pk_un (by omega)]
    exact hQ j h1 h2 y hy
  have upR : ∀ (Dn : Nat → Int32) (x : Nat), (∀ y, x < y → y < 61 → Dn (i * 61 + y) = nI (rl_dn w t g n L i y)) → ∀ y, x ≤ y → y < 61 → upd Dn (i * 61 + x) (nI (rl_dn w t g n L i x)) (i * 61 + y) = nI (rl_dn w t g n L i y) := by
    intro Dn x hr y h1 h2
    by_cases e : y = x
    · subst e; rw [pk_us]
    · rw [pk_un (by omega)]
      exact hr y (by omega) h2
  intro x
  induction x with
  | zero =>
    intro hx Dn hQ hr N hN
    obtain ⟨M, rfl⟩ : ∃ M, N = M + 1 + 1 := ⟨N - 2, by omega⟩
    refine body 0 hx Dn (M + 1) hQ ?_
    rw [wY_fillDown_31]
    dsimp only
    refine br_t ry_neg1 (nm_e (K _ ?_))
    intro j h1 h2 y hy
    by_cases e : j = i
    · subst e
      exact upR Dn 0 hr y (by omega) hy
    · exact upQ Dn 0 hx hQ j (by omega) h2 y hy
  | succ x ih =>
    intro hx Dn hQ hr N hN
    obtain ⟨M, rfl⟩ : ∃ M, N = M + 1 := ⟨N - 1, by omega⟩
    refine body (x + 1) hx Dn M hQ ?_
    rw [pk_m1]
    exact ih (by omega) _ (upQ Dn (x + 1) hx hQ) (fun y h1 h2 => upR Dn (x + 1) hr y (by omega) h2) M (by omega)
theorem ry_d7 {post : SY → Prop} (D : rl_D w t g n L) (K : ∀ Dn : Nat → Int32, ry_Q (rl_dn w t g n L) n 0 Dn → post (nI L, nI n, rA w, rA t, rA g, U, Dn, Ch)) :
    ∀ i, i < n → ∀ Dn : Nat → Int32, ry_Q (rl_dn w t g n L) n (i + 1) Dn → ∀ N, i + 2 ≤ N → wY_fillDown_7 post (nI L) (nI n) N (nI i) (rA w) (rA t) (rA g) U Dn Ch := by
  have hn := D.2.1
  have body : ∀ i, i < n → ∀ (Dn : Nat → Int32) (M : Nat), ry_Q (rl_dn w t g n L) n (i + 1) Dn → (∀ Dn : Nat → Int32, ry_Q (rl_dn w t g n L) n i Dn → wY_fillDown_7 post (nI L) (nI n) M (nI i + (-1)) (rA w) (rA t) (rA g) U Dn Ch) → wY_fillDown_7 post (nI L) (nI n) (M + 1) (nI i) (rA w) (rA t) (rA g) U Dn Ch := by
    intro i hi Dn M hQ H
    have go : wY_fillDown_31 post (wY_fillDown_7 post (nI L) (nI n) M) (nI i) (nI L) (nI n) 62 (nI (rl_qb w t g n L i (60 + 1))) (nI 60) (rA w) (rA t) (rA g) U Dn Ch :=
      ry_d31 D hi H 60 (by omega) Dn hQ (fun y h1 h2 => by omega) 62 (by omega)
    rw [wY_fillDown_7]
    dsimp only
    obtain ⟨k, rfl⟩ : ∃ k, n = k + 1 := ⟨n - 1, by omega⟩
    rw [nI_pred]
    refine br_f (nI_pos (by omega)) ?_
    refine pk_eq i k (fun h => ⟨62, ?_⟩) (fun h => ⟨62, ?_⟩) rfl rfl (by omega) (by omega)
    · have e : rl_qb w t g (k + 1) L i (60 + 1) = 0 := by unfold rl_qb; rw [if_pos (by omega)]
      rw [e] at go
      exact go
    · have e : rl_qb w t g (k + 1) L i (60 + 1) = 1000000 := by
        unfold rl_qb
        rw [if_neg (by omega), show 61 - (60 + 1 + w i) = 0 by omega]
        rfl
      rw [e] at go
      exact go
  intro i
  induction i with
  | zero =>
    intro hi Dn hQ N hN
    obtain ⟨M, rfl⟩ : ∃ M, N = M + 1 + 1 := ⟨N - 2, by omega⟩
    refine body 0 hi Dn (M + 1) hQ (fun Dn' h' => ?_)
    rw [wY_fillDown_7]
    exact br_t ry_neg1 (K Dn' h')
  | succ i ih =>
    intro hi Dn hQ N hN
    obtain ⟨M, rfl⟩ : ∃ M, N = M + 1 := ⟨N - 1, by omega⟩
    refine body (i + 1) hi Dn M hQ (fun Dn' h' => ?_)
    rw [pk_m1]
    exact ih (by omega) Dn' h' M (by omega)
theorem ry_fillDown {post : SY → Prop} (D : rl_D w t g n L) (h0 : 0 < n) (K : ∀ Dn : Nat → Int32, ry_Q (rl_dn w t g n L) n 0 Dn → post (nI L, nI n, rA w, rA t, rA g, U, Dn, Ch)) : wpY_fillDown post (nI L, nI n, rA w, rA t, rA g, U, Dn, Ch) := by
  obtain ⟨k, rfl⟩ : ∃ k, n = k + 1 := ⟨n - 1, by omega⟩
  show ∀ x1_1 : Int32, x1_1 = nI (k + 1) - 1 → ∃ n7 : Nat, wY_fillDown_7 post (nI L) (nI (k + 1)) n7 x1_1 (rA w) (rA t) (rA g) U Dn Ch
  exact nm_r (nI_pred k) ⟨k + 2, ry_d7 D K k (by omega) Dn (fun j h1 h2 => by omega) (k + 2) (by omega)⟩
end
end
section
/-! the first best places: pure, then both walks -/
section
variable {w t g : Nat → Nat} {n L : Nat}
theorem rl_D_r {r : Nat} (D : rl_D w t g n L) (hr : r ≤ 60) : rl_D w t g n r := ⟨hr, D.2⟩
def rl_Lf (w t g : Nat → Nat) (c r x : Nat) : Prop := rl_up w t g r c x = rl_mc w t g 0 0 (c + 1) r ∧ ∀ y, y < x → ¬ rl_up w t g r c y = rl_mc w t g 0 0 (c + 1) r
noncomputable def rl_lf (w t g : Nat → Nat) (c r : Nat) : Nat := Classical.epsilon (rl_Lf w t g c r)
theorem rl_lf_ok (D : rl_D w t g n L) {c r : Nat} (hc : c < 10) (hr : r ≤ 60) (hm : rl_mc w t g 0 0 (c + 1) r ≠ 1000000) : rl_Lf w t g c r (rl_lf w t g c r) := by
  refine Classical.epsilon_spec (p := rl_Lf w t g c r) ?_
  have e := rl_mc_up (rl_D_r D hr) (i := c) (r := r) (z := 61) (by omega) (fun y => by omega)
  rcases rl_pm_at (rl_up w t g r c) 61 with h | ⟨y, _, h⟩
  · exact absurd (e.trans h) hm
  · exact pk_least (fun x => rl_up w t g r c x = rl_mc w t g 0 0 (c + 1) r) ⟨y, (e.trans h).symm⟩
theorem rl_lf_in (D : rl_D w t g n L) {c r : Nat} (hc : c < 10) (hr : r ≤ 60) (hm : rl_mc w t g 0 0 (c + 1) r ≠ 1000000) : rl_lf w t g c r + w c ≤ r ∧ rl_mc w t g 0 0 c (rl_lf w t g c r) ≠ 1000000 ∧ rl_mc w t g 0 0 (c + 1) r = rl_mc w t g 0 0 c (rl_lf w t g c r) + g c * rl_ds (rl_lf w t g c r) (t c) := by
  have h := (rl_lf_ok D hc hr hm).1
  rw [← h] at hm ⊢
  unfold rl_up at hm ⊢
  by_cases e : rl_lf w t g c r + w c ≤ r
  · have eo : rl_ow w t g r c (rl_lf w t g c r) = g c * rl_ds (rl_lf w t g c r) (t c) := if_pos e
    rw [eo] at hm ⊢
    refine ⟨e, by omega, by omega⟩
  · have eo : rl_ow w t g r c (rl_lf w t g c r) = 1000000 := if_neg e
    rw [eo] at hm
    exact absurd (Nat.min_eq_right (Nat.le_add_left _ _)) hm
/-- the right edge for the k-th cell from behind -/
noncomputable def rl_rt (w t g : Nat → Nat) (n L : Nat) : Nat → Nat
  | 0 => L
  | k + 1 => rl_lf w t g (n - 1 - k) (rl_rt w t g n L k)
noncomputable def rl_R (w t g : Nat → Nat) (n L i : Nat) : Nat := rl_rt w t g n L (n - 1 - i)
theorem rl_R_last {k : Nat} : rl_R w t g (k + 1) L k = L := by
  unfold rl_R
  rw [show k + 1 - 1 - k = 0 by omega]
  rfl
theorem rl_R_s {k : Nat} (h : k + 1 < n) : rl_R w t g n L k = rl_lf w t g (k + 1) (rl_R w t g n L (k + 1)) := by
  unfold rl_R
  rw [show n - 1 - k = (n - 1 - (k + 1)) + 1 by omega]
  show rl_lf w t g (n - 1 - (n - 1 - (k + 1))) _ = _
  rw [show n - 1 - (n - 1 - (k + 1)) = k + 1 by omega]
theorem rl_R_ok (D : rl_D w t g n L) (hm : rl_mc w t g 0 0 n L ≠ 1000000) : ∀ k i, i + k + 1 = n → rl_R w t g n L i ≤ L ∧ rl_mc w t g 0 0 (i + 1) (rl_R w t g n L i) ≠ 1000000 := by
  have hL := D.1
  have hn := D.2.1
  intro k
  induction k with
  | zero =>
    intro i hi
    have e : n = i + 1 := by omega
    subst e
    rw [rl_R_last]
    exact ⟨Nat.le_refl _, hm⟩
  | succ k ih =>
    intro i hi
    obtain ⟨a, b⟩ := ih (i + 1) (by omega)
    obtain ⟨c1, c2, _⟩ := rl_lf_in D (by omega) (by omega) b
    rw [rl_R_s (by omega)]
    exact ⟨by omega, c2⟩
theorem rl_an_inj {a b : Nat} (ha : a ≤ 1000000) (hb : b ≤ 1000000) (h : rl_an a = rl_an b) : a = b := by
  by_cases h1 : a = 1000000
  · by_cases h2 : b = 1000000
    · omega
    · rw [h1, rl_an_n, rl_an_p h2] at h
      exact absurd h.symm (rl_nI6 (by omega))
  · by_cases h2 : b = 1000000
    · rw [h2, rl_an_n, rl_an_p h1] at h
      exact absurd h (rl_nI6 (by omega))
    · rw [rl_an_p h1, rl_an_p h2, nI_eq (by omega) (by omega)] at h
      exact h
theorem rl_mc_le (D : rl_D w t g n L) {f l d r : Nat} (hr : r ≤ 60) (hd : d ≤ 10) : rl_mc w t g f l d r ≤ 1000000 := by
  rcases rl_mc_rg D (f := f) (l := l) hr hd with h | h
  · omega
  · omega
end
section
variable {fc fp : Int32} {P PL : Nat → Int32} {w t g : Nat → Nat} {n L : Nat}
theorem rx_p53 {post : SX → Prop} {J : Int32 → Int32 → Int32 → Int32 → Int32 → (Nat → Int32) → (Nat → Int32) → (Nat → Int32) → (Nat → Int32) → (Nat → Int32) → Prop} {fl : Int32} {W T G : Nat → Int32} {c x : Nat} (hc : c < 10) (K : J (nI x) (nI c + (-1)) fl fc fp W T G P (upd PL c (nI x))) : wX_findPlaces_53 post J (nI c) (nI x) fl fc fp W T G P PL := by
  unfold wX_findPlaces_53
  rw [nI_clamp (by omega)]
  exact ⟨vp_in_nI hc (by omega), nm_e (nm_e K)⟩
theorem rx_p26 {post : SX → Prop} {J : Int32 → Int32 → Int32 → Int32 → Int32 → (Nat → Int32) → (Nat → Int32) → (Nat → Int32) → (Nat → Int32) → (Nat → Int32) → Prop} {c r : Nat} (D : rl_D w t g n L) (hc : c < 10) (hr : r ≤ L) (hm : rl_mc w t g 0 0 (c + 1) r ≠ 1000000)
    (K : ∀ (fp : Int32) (P : Nat → Int32), J (nI (rl_lf w t g c r)) (nI c + (-1)) (nI L) fc fp (rA w) (rA t) (rA g) P (upd PL c (nI (rl_lf w t g c r)))) :
    ∀ k x, x + k = rl_lf w t g c r → ∀ (fp : Int32) (P : Nat → Int32), wX_findPlaces_26 post J (nI r) (nI c) (rl_an (rl_mc w t g 0 0 (c + 1) r)) (k + 1) (nI x) (nI L) fc fp (rA w) (rA t) (rA g) P PL := by
  have hL := D.1
  obtain ⟨h1, h2⟩ := rl_lf_ok D hc (by omega) hm
  obtain ⟨i1, i2, i3⟩ := rl_lf_in D hc (by omega) hm
  intro k
  induction k with
  | zero =>
    intro x hx fp P
    have e : x = rl_lf w t g c r := by omega
    subst e
    rw [wX_findPlaces_26]
    dsimp only
    refine br_c (fun _ => rx_p53 hc (K fp P)) (fun _ => ?_)
    refine rx_upTo D hc (by omega) (by omega) ?_
    intro fp' P'
    dsimp only
    rw [h1]
    exact br_t rfl (rx_p53 hc (K fp' P'))
  | succ k ih =>
    intro x hx fp P
    rw [wX_findPlaces_26]
    dsimp only
    refine br_f (nI_ge (by omega) (by omega)) ?_
    refine rx_upTo D hc (by omega) (by omega) ?_
    intro fp' P'
    dsimp only
    refine br_f ?_ (nm_r (nI_1 x) (ih (x + 1) (by omega) fp' P'))
    intro z
    exact h2 x (by omega) (rl_an_inj rl_up_le (rl_mc_le D (by omega) (by omega)) z)
theorem rx_best {post : Int32 → SX → Prop} {fl : Int32} {c r : Nat} (D : rl_D w t g n L) (hc : c < 10) (hr : r ≤ 60)
    (K : ∀ (fp : Int32) (P : Nat → Int32), post (rl_an (rl_mc w t g 0 0 (c + 1) r)) (fl, fc, fp, rA w, rA t, rA g, P, PL)) : wpX_bestUpTo post (fl, fc, fp, rA w, rA t, rA g, P, PL) (nI c) (nI r) := by
  unfold wpX_bestUpTo
  dsimp only
  rw [nI_1]
  exact rx_part (f := 0) (l := 0) D (Nat.zero_add (c + 1)) (by omega) (by omega) hr K
theorem rx_p12 {post : SX → Prop} (D : rl_D w t g n L) (hm : rl_mc w t g 0 0 n L ≠ 1000000)
    (K : ∀ (fp : Int32) (P PL : Nat → Int32), (∀ j, j < n → PL j = nI (rl_lf w t g j (rl_R w t g n L j))) → post (nI L, fc, fp, rA w, rA t, rA g, P, PL)) :
    ∀ c, c < n → ∀ (fp : Int32) (P PL : Nat → Int32), (∀ j, c < j → j < n → PL j = nI (rl_lf w t g j (rl_R w t g n L j))) → ∀ N, c + 2 ≤ N → wX_findPlaces_12 post N (nI (rl_R w t g n L c)) (nI c) (nI L) fc fp (rA w) (rA t) (rA g) P PL := by
  have hL := D.1
  have hn := D.2.1
  have body : ∀ c, c < n → ∀ (M : Nat) (fp : Int32) (P PL : Nat → Int32), (∀ (fp : Int32) (P : Nat → Int32), wX_findPlaces_12 post M (nI (rl_lf w t g c (rl_R w t g n L c))) (nI c + (-1)) (nI L) fc fp (rA w) (rA t) (rA g) P (upd PL c (nI (rl_lf w t g c (rl_R w t g n L c))))) → wX_findPlaces_12 post (M + 1) (nI (rl_R w t g n L c)) (nI c) (nI L) fc fp (rA w) (rA t) (rA g) P PL := by
    intro c hc M fp P PL H
    obtain ⟨r1, r2⟩ := rl_R_ok D hm (n - 1 - c) c (by omega)
    rw [wX_findPlaces_12]
    dsimp only
    refine br_f (nI_pos (by omega)) ?_
    refine rx_best D (by omega) (by omega) ?_
    intro fp' P'
    dsimp only
    exact ⟨rl_lf w t g c (rl_R w t g n L c) + 1, rx_p26 D (by omega) r1 r2 H (rl_lf w t g c (rl_R w t g n L c)) 0 (by omega) fp' P'⟩
  have upP : ∀ (c : Nat) (PL : Nat → Int32), (∀ j, c < j → j < n → PL j = nI (rl_lf w t g j (rl_R w t g n L j))) → ∀ j, c ≤ j → j < n → upd PL c (nI (rl_lf w t g c (rl_R w t g n L c))) j = nI (rl_lf w t g j (rl_R w t g n L j)) := by
    intro c PL h j h1 h2
    by_cases e : j = c
    · subst e; rw [pk_us]
    · rw [pk_un e]
      exact h j (by omega) h2
  intro c
  induction c with
  | zero =>
    intro hc fp P PL hP N hN
    obtain ⟨M, rfl⟩ : ∃ M, N = M + 1 + 1 := ⟨N - 2, by omega⟩
    refine body 0 hc (M + 1) fp P PL (fun fp' P' => ?_)
    rw [wX_findPlaces_12]
    exact br_t ry_neg1 (K fp' P' _ (fun j hj => upP 0 PL hP j (by omega) hj))
  | succ c ih =>
    intro hc fp P PL hP N hN
    obtain ⟨M, rfl⟩ : ∃ M, N = M + 1 := ⟨N - 1, by omega⟩
    refine body (c + 1) hc M fp P PL (fun fp' P' => ?_)
    rw [pk_m1, ← rl_R_s hc]
    refine ih (by omega) fp' P' _ (fun j h1 h2 => ?_) M (by omega)
    rw [rl_R_s hc]
    exact upP (c + 1) PL hP j (by omega) h2
theorem rx_places {post : SX → Prop} (D : rl_D w t g n L) (h0 : 0 < n) (hm : rl_mc w t g 0 0 n L ≠ 1000000)
    (K : ∀ (fp : Int32) (P PL : Nat → Int32), (∀ j, j < n → PL j = nI (rl_lf w t g j (rl_R w t g n L j))) → post (nI L, nI n, fp, rA w, rA t, rA g, P, PL)) : wpX_findPlaces post (nI L, nI n, fp, rA w, rA t, rA g, P, PL) := by
  obtain ⟨k, rfl⟩ : ∃ k, n = k + 1 := ⟨n - 1, by omega⟩
  show ∀ x2_1 : Int32, x2_1 = nI (k + 1) - 1 → ∃ n12 : Nat, wX_findPlaces_12 post n12 (nI L) x2_1 (nI L) (nI (k + 1)) fp (rA w) (rA t) (rA g) P PL
  refine nm_r (nI_pred k) ⟨k + 2, ?_⟩
  have h := rx_p12 D hm K k (by omega) fp P PL (fun j h1 h2 => by omega) (k + 2) (by omega)
  rw [rl_R_last] at h
  exact h
theorem rx_noC {post : Int32 → Prop} {fl : Int32} {W T G : Nat → Int32} {c : Nat} (hn : n ≤ 10) (hc : c < n) (K : post 0) : wpX_noCell post (fl, nI n, fp, W, T, G, P, PL) (nI c) := by
  unfold wpX_noCell
  exact br_f (nI_pos (by omega)) (br_t (nI_lt hc (by omega)) K)
theorem rx_noCx {post : Int32 → Prop} {fl : Int32} {W T G : Nat → Int32} {v : Int32} (hn : n ≤ 10) (hv : ∀ c, c < n → v ≠ nI c) (K : post 1) : wpX_noCell post (fl, nI n, fp, W, T, G, P, PL) v := by
  unfold wpX_noCell
  by_cases h : v < 0
  · exact br_t h K
  · obtain ⟨j, hj, rfl⟩ := nI_of h
    have e : n ≤ j := by
      by_cases e : j < n
      · exact absurd rfl (hv j e)
      · omega
    exact br_f h (br_f (nI_nlt e hj) K)
end
section
variable {U Dn Ch : Nat → Int32} {w t g : Nat → Nat} {n L : Nat}
theorem ry_badC {post : Int32 → Prop} {fl : Int32} {W T G : Nat → Int32} {c : Nat} (hn : n ≤ 10) (hc : c < n) (K : post 0) : wpY_badCell post (fl, nI n, W, T, G, U, Dn, Ch) (nI c) := by
  unfold wpY_badCell
  exact br_f (nI_pos (by omega)) (br_t (nI_lt hc (by omega)) K)
theorem ry_badCx {post : Int32 → Prop} {fl : Int32} {W T G : Nat → Int32} {v : Int32} (hn : n ≤ 10) (hv : ∀ c, c < n → v ≠ nI c) (K : post 1) : wpY_badCell post (fl, nI n, W, T, G, U, Dn, Ch) v := by
  unfold wpY_badCell
  by_cases h : v < 0
  · exact br_t h K
  · obtain ⟨j, hj, rfl⟩ := nI_of h
    have e : n ≤ j := by
      by_cases e : j < n
      · exact absurd rfl (hv j e)
      · omega
    exact br_f h (br_f (nI_nlt e hj) K)
theorem ry_l62 {post : Int32 → SY → Prop} {J : Int32 → Int32 → Int32 → (Nat → Int32) → (Nat → Int32) → (Nat → Int32) → (Nat → Int32) → (Nat → Int32) → (Nat → Int32) → Prop} {x1 fl fc : Int32} {W T G : Nat → Int32} {i e q due : Nat} {h : Nat → Nat} (hi : i < 10) (he : e ≤ 60) (hq : q ≤ e) (hd : due ≤ 1000000) (hU : ∀ x, x < 61 → U (i * 61 + x) = nI (h x)) (hh : ∀ x, h x ≤ 1000000) (h1 : h q = due) (h2 : ∀ y, y < q → h y ≠ due)
    (K : wY_leftmost_100 post J x1 (nI due) (nI i) (nI q) fl fc W T G U Dn Ch) :
    ∀ k x, x + k = q → wY_leftmost_62 post J x1 (nI due) (nI e) (nI i) fl fc W T G U Dn Ch (k + 2) (-1) (nI x) := by
  intro k
  induction k with
  | zero =>
    intro x hx
    have e2 : x = q := by omega
    subst e2
    have b := hh x
    rw [wY_leftmost_62]
    dsimp only
    rw [ry_ix, nI_clamp (by omega), hU x (by omega), nI_1]
    refine br_f (nI_nlt hq (by omega)) (br_f (by decide) ⟨vp_in_nI (by omega) (by omega), ?_⟩)
    refine br_t (by rw [h1]) (nm_e ?_)
    rw [wY_leftmost_62]
    exact br_c (fun _ => K) (fun _ => br_t (nI_pos' (by omega)) K)
  | succ k ih =>
    intro x hx
    have b := hh x
    rw [wY_leftmost_62]
    dsimp only
    rw [ry_ix, nI_clamp (by omega), hU x (by omega), nI_1]
    refine br_f (nI_nlt (by omega) (by omega)) (br_f (by decide) ⟨vp_in_nI (by omega) (by omega), ?_⟩)
    refine br_f ?_ (nm_e (ih (x + 1) (by omega)))
    rw [nI_eq (by omega) (by omega)]
    exact h2 x (by omega)
theorem ry_dec {i : Nat} (hi : i < 10) : nI i + (-1) < nI i := by
  cases i with
  | zero => exact ry_neg1
  | succ i =>
    rw [pk_m1]
    exact nI_lt (by omega) (by omega)
theorem ry_l50 {post : Int32 → SY → Prop} {c : Nat} (D : rl_D w t g n L) (hm : rl_mc w t g 0 0 n L ≠ 1000000) (hU : ry_R (rl_up w t g L) n U)
    (K : ∀ Ch : Nat → Int32, post (nI (rl_lf w t g c (rl_R w t g n L c))) (nI L, nI n, rA w, rA t, rA g, U, Dn, Ch)) :
    ∀ i, i < n → c ≤ i → ∀ (Ch : Nat → Int32) (e : Nat), rl_lf w t g i (rl_R w t g n L i) ≤ e → e ≤ 60 → ∀ N, i + 2 ≤ N → wY_leftmost_50 post (nI c) (nI L) (nI n) N (nI (rl_mc w t g 0 0 (i + 1) (rl_R w t g n L i))) (nI e) (nI i) (rA w) (rA t) (rA g) U Dn Ch := by
  have hL := D.1
  have hn := D.2.1
  intro i
  induction i with
  | zero =>
    intro hi hc Ch e h1 h2 N hN
    obtain ⟨M, rfl⟩ : ∃ M, N = M + 1 + 1 := ⟨N - 2, by omega⟩
    have ec : c = 0 := by omega
    subst ec
    obtain ⟨r1, r2⟩ := rl_R_ok D hm (n - 1 - 0) 0 (by omega)
    obtain ⟨q1, q2⟩ := rl_lf_ok D (by omega) (by omega) r2
    obtain ⟨i1, i2, i3⟩ := rl_lf_in D (by omega) (by omega) r2
    have hle := rl_mc_le D (f := 0) (l := 0) (d := 0 + 1) (r := rl_R w t g n L 0) (by omega) (by omega)
    rw [wY_leftmost_50]
    dsimp only
    refine br_f (nI_nlt hc (by omega)) ⟨rl_lf w t g 0 (rl_R w t g n L 0) + 2, ?_⟩
    have same : ∀ y, y ≤ rl_lf w t g 0 (rl_R w t g n L 0) → rl_up w t g L 0 y = rl_up w t g (rl_R w t g n L 0) 0 y := by
      intro y hy
      unfold rl_up rl_ow
      rw [if_pos (by omega), if_pos (by omega)]
    refine ry_l62 (h := rl_up w t g L 0) (by omega) h2 h1 hle (fun x hx => hU 0 (by omega) x hx) (fun x => rl_up_le) ((same _ (Nat.le_refl _)).trans q1) (fun y hy => by rw [same y (by omega)]; exact q2 y hy) ?_ _ 0 (by omega)
    unfold wY_leftmost_100
    rw [nI_clamp (by omega)]
    refine ⟨vp_in_nI (by omega) (by omega), nm_e ?_⟩
    refine ry_own D (by omega) (by omega) (nm_e ?_)
    refine br_t (nI_le (b := 0) (Nat.le_refl _) (by omega)) (nm_e ?_)
    rw [wY_leftmost_50]
    dsimp only
    refine br_t (ry_dec (by omega)) ⟨vp_in_nI (by omega) (by omega), ?_⟩
    rw [nI_clamp (by omega), pk_us]
    exact K _
  | succ i ih =>
    intro hi hc Ch e h1 h2 N hN
    obtain ⟨M, rfl⟩ : ∃ M, N = M + 1 := ⟨N - 1, by omega⟩
    obtain ⟨r1, r2⟩ := rl_R_ok D hm (n - 1 - (i + 1)) (i + 1) (by omega)
    obtain ⟨q1, q2⟩ := rl_lf_ok D (by omega) (by omega) r2
    obtain ⟨i1, i2, i3⟩ := rl_lf_in D (by omega) (by omega) r2
    have hle := rl_mc_le D (f := 0) (l := 0) (d := i + 1 + 1) (r := rl_R w t g n L (i + 1)) (by omega) (by omega)
    have eR := rl_R_s (w := w) (t := t) (g := g) (L := L) hi
    have hw := D.2.2.1 i
    rw [wY_leftmost_50]
    dsimp only
    refine br_f (nI_nlt hc (by omega)) ⟨rl_lf w t g (i + 1) (rl_R w t g n L (i + 1)) + 2, ?_⟩
    have same : ∀ y, y ≤ rl_lf w t g (i + 1) (rl_R w t g n L (i + 1)) → rl_up w t g L (i + 1) y = rl_up w t g (rl_R w t g n L (i + 1)) (i + 1) y := by
      intro y hy
      unfold rl_up rl_ow
      rw [if_pos (by omega), if_pos (by omega)]
    refine ry_l62 (h := rl_up w t g L (i + 1)) (by omega) h2 h1 hle (fun x hx => hU (i + 1) (by omega) x hx) (fun x => rl_up_le) ((same _ (Nat.le_refl _)).trans q1) (fun y hy => by rw [same y (by omega)]; exact q2 y hy) ?_ _ 0 (by omega)
    unfold wY_leftmost_100
    rw [nI_clamp (by omega), nI_pred, rA_cl (by omega)]
    refine ⟨vp_in_nI (by omega) (by omega), nm_e ?_⟩
    refine ry_own D (by omega) (by omega) ?_
    have eo : rl_ow w t g L (i + 1) (rl_lf w t g (i + 1) (rl_R w t g n L (i + 1))) = g (i + 1) * rl_ds (rl_lf w t g (i + 1) (rl_R w t g n L (i + 1))) (t (i + 1)) := if_pos (by omega)
    rw [eo]
    refine nm_r (e' := nI (rl_mc w t g 0 0 (i + 1) (rl_R w t g n L i))) ?_ ?_
    · rw [pk_sub (by omega), i3, eR]
      exact congrArg nI (by omega)
    · refine br_f (nI_nle (by omega) (by omega)) ⟨vp_in_nI (by omega) (by omega), ?_⟩
      have hA : w i ≤ rl_lf w t g (i + 1) (rl_R w t g n L (i + 1)) := by
        have a := (rl_R_ok D hm (n - 1 - i) i (by omega)).2
        rw [eR] at a
        obtain ⟨b1, _, _⟩ := rl_lf_in D (c := i) (by omega) (by omega) a
        omega
      refine nm_r (pk_sub hA) (nm_e ?_)
      by_cases ec : c = i + 1
      · obtain ⟨M, rfl⟩ : ∃ k, M = k + 1 := ⟨M - 1, by omega⟩
        subst ec
        rw [wY_leftmost_50]
        dsimp only
        refine br_t (ry_dec (by omega)) ⟨vp_in_nI (by omega) (by omega), ?_⟩
        rw [nI_clamp (by omega), pk_us]
        exact K _
      · rw [pk_m1]
        obtain ⟨s1, s2⟩ := rl_R_ok D hm (n - 1 - i) i (by omega)
        obtain ⟨t1, _, _⟩ := rl_lf_in D (c := i) (by omega) (by omega) s2
        refine ih (by omega) (by omega) _ _ ?_ (by omega) M (by omega)
        rw [← eR]
        omega
end
end
section
/-! content: the longest row at its wishes, by chains and by sets -/
section
variable (w t : Nat → Nat) (L : Nat)
/-- the cells below i that b takes stand at their wishes, the last of them ending at e -/
def rc_V (b : Nat → Nat) : Nat → Nat → Prop
  | 0 => fun e => e = 0
  | i + 1 => fun e => (b i = 1 ∧ ∃ e', rc_V b i e' ∧ e' ≤ t i ∧ t i + w i ≤ L ∧ e = t i + w i) ∨ (b i ≠ 1 ∧ rc_V b i e)
/-- v is the length of the longest row that ends with c, over the lengths q below c -/
def rc_P (q : Nat → Nat) (c v : Nat) : Prop := (L < t c + w c → v = 0) ∧ (t c + w c ≤ L → (∀ b, b < c → t b + w b ≤ t c → q b + 1 ≤ v) ∧ 1 ≤ v ∧ (v = 1 ∨ ∃ b, b < c ∧ t b + w b ≤ t c ∧ v = q b + 1))
def rc_Q (q : Nat → Nat) (m : Nat) : Prop := ∀ c, c < m → rc_P w t L q c (q c)
end
def rc_M (q : Nat → Nat) (m M : Nat) : Prop := (∀ c, c < m → q c ≤ M) ∧ (M = 0 ∨ ∃ c, c < m ∧ q c = M)
def rc_b (s : Nat) : Nat → Nat := fun i => s / 2 ^ i % 2
theorem rc_b_le (s i : Nat) : rc_b s i ≤ 1 := by
  unfold rc_b
  omega
theorem rc_b_hi {s c j : Nat} (hs : s < 2 ^ c) (hj : c ≤ j) : rc_b s j = 0 := by
  unfold rc_b
  have a : 2 ^ c ≤ 2 ^ j := Nat.pow_le_pow_right (by omega) hj
  rw [Nat.div_eq_of_lt (by omega)]
theorem rc_b_at {s c : Nat} (hs : s < 2 ^ c) : rc_b (s + 2 ^ c) c = 1 := by
  unfold rc_b
  rw [Nat.add_div_right _ (Nat.two_pow_pos c), Nat.div_eq_of_lt hs]
theorem rc_b_lo {s c j : Nat} (hj : j < c) : rc_b (s + 2 ^ c) j = rc_b s j := by
  unfold rc_b
  obtain ⟨d, rfl⟩ : ∃ d, c = j + (d + 1) := ⟨c - j - 1, by omega⟩
  rw [Nat.pow_add, Nat.add_mul_div_left _ _ (Nat.two_pow_pos j), Nat.pow_succ]
  omega
section
variable {w t : Nat → Nat} {L : Nat}
theorem rc_V_un {b : Nat → Nat} : ∀ i e e', rc_V w t L b i e → rc_V w t L b i e' → e = e' := by
  intro i
  induction i with
  | zero =>
    intro e e' h h'
    exact h.trans h'.symm
  | succ i ih =>
    intro e e' h h'
    rcases h with ⟨h1, _, _, _, _, h2⟩ | ⟨h1, h2⟩
    · rcases h' with ⟨g1, _, _, _, _, g2⟩ | ⟨g1, g2⟩
      · omega
      · exact absurd h1 g1
    · rcases h' with ⟨g1, _, _, _, _, g2⟩ | ⟨g1, g2⟩
      · exact absurd g1 h1
      · exact ih e e' h2 g2
theorem rc_V_down {b : Nat → Nat} {i : Nat} : ∀ k, (∃ e, rc_V w t L b (i + k) e) → ∃ e, rc_V w t L b i e := by
  intro k
  induction k with
  | zero => intro h; exact h
  | succ k ih =>
    rintro ⟨e, h⟩
    rcases h with ⟨_, e', h, _⟩ | ⟨_, h⟩
    · exact ih ⟨e', h⟩
    · exact ih ⟨e, h⟩
theorem rc_V_congr {b b' : Nat → Nat} : ∀ i e, (∀ j, j < i → b j = b' j) → rc_V w t L b i e → rc_V w t L b' i e := by
  intro i
  induction i with
  | zero => intro e _ h; exact h
  | succ i ih =>
    intro e hb h
    have eb := hb i (by omega)
    rcases h with ⟨h1, e', h2, h3⟩ | ⟨h1, h2⟩
    · exact Or.inl ⟨by omega, e', ih e' (fun j hj => hb j (by omega)) h2, h3⟩
    · exact Or.inr ⟨by omega, ih e (fun j hj => hb j (by omega)) h2⟩
theorem rc_V_ext {b : Nat → Nat} {i e : Nat} (h : rc_V w t L b i e) : ∀ k, (∀ j, i ≤ j → j < i + k → b j = 0) → rc_V w t L b (i + k) e ∧ rl_sm b (i + k) = rl_sm b i := by
  intro k
  induction k with
  | zero => intro _; exact ⟨h, rfl⟩
  | succ k ih =>
    intro hb
    obtain ⟨a1, a2⟩ := ih (fun j h1 h2 => hb j h1 (by omega))
    have z := hb (i + k) (by omega) (by omega)
    have z1 : b (i + k) ≠ 1 := by omega
    refine ⟨Or.inr ⟨z1, a1⟩, ?_⟩
    show rl_sm b (i + k) + b (i + k) = rl_sm b i
    omega
theorem rc_upper {q b : Nat → Nat} {n : Nat} (hQ : rc_Q w t L q n) (hb : ∀ i, b i ≤ 1) : ∀ i, i ≤ n → ∀ e, rc_V w t L b i e → (rl_sm b i = 0 ∧ e = 0) ∨ ∃ c, c < i ∧ e = t c + w c ∧ rl_sm b i ≤ q c := by
  intro i
  induction i with
  | zero =>
    intro _ e h
    exact Or.inl ⟨rfl, h⟩
  | succ i ih =>
    intro hi e h
    have es : rl_sm b (i + 1) = rl_sm b i + b i := rfl
    rcases h with ⟨h1, e', h2, h3, h4, h5⟩ | ⟨h1, h2⟩
    · obtain ⟨p1, p2, _⟩ := (hQ i (by omega)).2 h4
      rcases ih (by omega) e' h2 with ⟨a1, a2⟩ | ⟨c, a1, a2, a3⟩
      · exact Or.inr ⟨i, by omega, h5, by omega⟩
      · have := p1 c a1 (by omega)
        exact Or.inr ⟨i, by omega, h5, by omega⟩
    · have z := hb i
      rcases ih (by omega) e h2 with ⟨a1, a2⟩ | ⟨c, a1, a2, a3⟩
      · exact Or.inl ⟨by omega, a2⟩
      · exact Or.inr ⟨c, by omega, a2, by omega⟩
theorem rc_lower {q : Nat → Nat} {n : Nat} (hQ : rc_Q w t L q n) : ∀ c, c < n → t c + w c ≤ L → ∃ s, s < 2 ^ (c + 1) ∧ rc_V w t L (rc_b s) (c + 1) (t c + w c) ∧ rl_sm (rc_b s) (c + 1) = q c := by
  intro c
  induction c using Nat.strongRecOn with
  | ind c ih =>
    intro hc hg
    have hp : 2 ^ (c + 1) = 2 ^ c * 2 := Nat.pow_succ 2 c
    obtain ⟨p1, p2, p3⟩ := (hQ c hc).2 hg
    -- a set below c, taken with c
    have take : ∀ s0 e0, s0 < 2 ^ c → rc_V w t L (rc_b s0) c e0 → e0 ≤ t c → ∃ s, s < 2 ^ (c + 1) ∧ rc_V w t L (rc_b s) (c + 1) (t c + w c) ∧ rl_sm (rc_b s) (c + 1) = rl_sm (rc_b s0) c + 1 := by
      intro s0 e0 h0 hV he
      refine ⟨s0 + 2 ^ c, by omega, Or.inl ⟨rc_b_at h0, e0, rc_V_congr c e0 (fun j hj => (rc_b_lo hj).symm) hV, he, hg, rfl⟩, ?_⟩
      show rl_sm (rc_b (s0 + 2 ^ c)) c + rc_b (s0 + 2 ^ c) c = _
      rw [rc_b_at h0, rl_sm_congr c (fun j hj => rc_b_lo (s := s0) hj)]
    by_cases h1 : q c = 1
    · have z : ∀ j, rc_b 0 j = 0 := fun j => rc_b_hi (c := 0) (by decide) (Nat.zero_le _)
      have v := rc_V_ext (w := w) (t := t) (L := L) (b := rc_b 0) (i := 0) (e := 0) rfl c (fun j _ _ => z j)
      rw [Nat.zero_add] at v
      obtain ⟨s, s1, s2, s3⟩ := take 0 0 (Nat.two_pow_pos c) v.1 (Nat.zero_le _)
      refine ⟨s, s1, s2, ?_⟩
      rw [s3, v.2, h1]
      rfl
    · rcases p3 with p3 | ⟨b, b1, b2, b3⟩
      · exact absurd p3 h1
      · have gb : t b + w b ≤ L := by
          by_cases e : t b + w b ≤ L
          · exact e
          · have := (hQ b (by omega)).1 (by omega)
            omega
        obtain ⟨s0, s1, s2, s3⟩ := ih b b1 (by omega) gb
        have hp2 : 2 ^ (b + 1) ≤ 2 ^ c := Nat.pow_le_pow_right (by omega) b1
        have v := rc_V_ext s2 (c - (b + 1)) (fun j h1 h2 => rc_b_hi s1 h1)
        rw [show b + 1 + (c - (b + 1)) = c by omega] at v
        obtain ⟨s, r1, r2, r3⟩ := take s0 _ (by omega) v.1 b2
        refine ⟨s, r1, r2, ?_⟩
        rw [r3, v.2, s3, b3]
theorem rc_main {q : Nat → Nat} {n M M' : Nat} (hQ : rc_Q w t L q n) (hM : rc_M q n M)
    (h1 : ∀ s, s < 2 ^ n → (∃ e, rc_V w t L (rc_b s) n e) → rl_sm (rc_b s) n ≤ M')
    (h2 : M' = 0 ∨ ∃ s, (∃ e, rc_V w t L (rc_b s) n e) ∧ rl_sm (rc_b s) n = M') : M' = M := by
  have a : M' ≤ M := by
    rcases h2 with h2 | ⟨s, ⟨e, hV⟩, hs⟩
    · omega
    · rcases rc_upper hQ (rc_b_le s) n (Nat.le_refl _) e hV with ⟨b1, _⟩ | ⟨c, b1, _, b3⟩
      · omega
      · have := hM.1 c b1
        omega
  have b : M ≤ M' := by
    rcases hM.2 with h | ⟨c, c1, c2⟩
    · omega
    · by_cases g : t c + w c ≤ L
      · obtain ⟨s, s1, s2, s3⟩ := rc_lower hQ c c1 g
        have v := rc_V_ext s2 (n - (c + 1)) (fun j h1 h2 => rc_b_hi s1 h1)
        rw [show c + 1 + (n - (c + 1)) = n by omega] at v
        have hp : 2 ^ (c + 1) ≤ 2 ^ n := Nat.pow_le_pow_right (by omega) c1
        have := h1 s (by omega) ⟨_, v.1⟩
        omega
      · have := (hQ c c1).1 (by omega)
        omega
  omega
theorem rc_P_congr {q q' : Nat → Nat} {c v : Nat} (h : ∀ b, b < c → q b = q' b) (hP : rc_P w t L q c v) : rc_P w t L q' c v := by
  refine ⟨hP.1, fun g => ?_⟩
  obtain ⟨p1, p2, p3⟩ := hP.2 g
  refine ⟨fun b h1 h2 => ?_, p2, ?_⟩
  · rw [← h b h1]; exact p1 b h1 h2
  · rcases p3 with p3 | ⟨b, b1, b2, b3⟩
    · exact Or.inl p3
    · exact Or.inr ⟨b, b1, b2, by rw [← h b b1]; exact b3⟩
theorem rc_Q_s {q : Nat → Nat} {c v : Nat} (hQ : rc_Q w t L q c) (hP : rc_P w t L q c v) : rc_Q w t L (fun j => if j = c then v else q j) (c + 1) := by
  have en : ∀ b, b < c → q b = (if b = c then v else q b) := fun b hb => by rw [if_neg (by omega)]
  intro j hj
  by_cases e : j = c
  · subst e
    dsimp only
    rw [if_pos rfl]
    exact rc_P_congr en hP
  · dsimp only
    rw [if_neg e]
    exact rc_P_congr (fun b hb => en b (by omega)) (hQ j (by omega))
theorem rc_M_s {q : Nat → Nat} {c v M : Nat} (hM : rc_M q c M) : rc_M (fun j => if j = c then v else q j) (c + 1) (max M v) := by
  constructor
  · intro j hj
    by_cases e : j = c
    · dsimp only
      rw [if_pos e]; omega
    · have := hM.1 j (by omega)
      dsimp only
      rw [if_neg e]; omega
  · by_cases h : v ≤ M
    · rcases hM.2 with z | ⟨j, j1, j2⟩
      · exact Or.inl (by omega)
      · refine Or.inr ⟨j, by omega, ?_⟩
        dsimp only
        rw [if_neg (by omega)]; omega
    · refine Or.inr ⟨c, by omega, ?_⟩
      dsimp only
      rw [if_pos rfl]; omega
end
section
variable {fp : Int32} {G P PL : Nat → Int32} {w t : Nat → Nat} {n L : Nat}
theorem rx_c102 {post : Int32 → SX → Prop} {J : Int32 → Int32 → (Nat → Int32) → (Nat → Int32) → (Nat → Int32) → (Nat → Int32) → (Nat → Int32) → Prop} {fl fc : Int32} {W T : Nat → Int32} {M c v : Nat} (hc : c < 10) (hM : M ≤ 10) (hv : v ≤ 10) (K : J (nI (max M v)) (nI (c + 1)) W T G P (upd PL c (nI v))) : wX_content_102 post J (nI M) (nI c) (nI v) (nI c) fl fc fp W T G P PL := by
  unfold wX_content_102
  rw [nI_clamp (by omega), nI_1]
  refine ⟨vp_in_nI hc (by omega), nm_e ⟨vp_in_nI hc (by omega), ?_⟩⟩
  rw [pk_us]
  refine pk_le v M (fun h => nm_e ?_) (fun h => ⟨vp_in_nI hc (by omega), nm_e (nm_e ?_)⟩) rfl rfl (by omega) (by omega)
  · rw [show max M v = M by omega] at K
    exact K
  · rw [show max M v = v by omega] at K
    exact K
def rc_B (w t q : Nat → Nat) (c b B : Nat) : Prop := (∀ j, j < b → t j + w j ≤ t c → q j ≤ B) ∧ (B = 0 ∨ ∃ j, j < b ∧ t j + w j ≤ t c ∧ q j = B)
theorem rx_c24 {post : Int32 → SX → Prop} {J : Int32 → Int32 → (Nat → Int32) → (Nat → Int32) → (Nat → Int32) → (Nat → Int32) → (Nat → Int32) → Prop} {fl fc : Int32} {M c : Nat} {q : Nat → Nat} (hc : c < 10) (hw : ∀ i, w i ≤ 5) (ht : ∀ i, t i ≤ 60) (hq : ∀ j, j < c → PL j = nI (q j) ∧ q j ≤ j + 1)
    (K : ∀ B, B ≤ 9 → rc_B w t q c c B → wX_content_85 post J (nI M) (nI c) 1 (nI B) fl fc fp (rA w) (rA t) G P PL) :
    ∀ r b, b + r = c → ∀ B, B ≤ 9 → rc_B w t q c b B → wX_content_24 post J (nI M) (nI c) 1 fl fc fp (rA w) (rA t) G P PL (r + 1) (nI B) (nI b) := by
  intro r
  induction r with
  | zero =>
    intro b hb B hB hI
    have e : b = c := by omega
    subst e
    rw [wX_content_24]
    exact br_t (nI_le (Nat.le_refl _) (by omega)) (K B hB hI)
  | succ r ih =>
    intro b hb B hB hI
    obtain ⟨q1, q2⟩ := hq b (by omega)
    have w1 := hw b
    have t1 := ht b
    have t2 := ht c
    rw [wX_content_24]
    dsimp only
    rw [rA_cl (f := t) (c := c) (by omega), rA_cl (f := t) (c := b) (by omega), rA_cl (f := w) (c := b) (by omega), nI_clamp (n := b) (by omega), nI_add, nI_1, q1]
    refine br_f (nI_ge (by omega) (by omega)) (br_f (by decide) ⟨vp_in_nI (by omega) (by omega), vp_in_nI (by omega) (by omega), vp_in_nI (by omega) (by omega), ?_⟩)
    refine pk_lt (t c) (t b + w b) (fun h => nm_e ?_) (fun h => ⟨vp_in_nI (by omega) (by omega), ?_⟩) rfl rfl (by omega) (by omega)
    · refine ih (b + 1) (by omega) B hB ⟨fun j h1 h2 => ?_, ?_⟩
      · by_cases e : j = b
        · subst e; omega
        · exact hI.1 j (by omega) h2
      · rcases hI.2 with z | ⟨j, j1, j2⟩
        · exact Or.inl z
        · exact Or.inr ⟨j, by omega, j2⟩
    · refine pk_le (q b) B (fun h2 => nm_e ?_) (fun h2 => ⟨vp_in_nI (by omega) (by omega), nm_e (nm_e ?_)⟩) rfl rfl (by omega) (by omega)
      · refine ih (b + 1) (by omega) B hB ⟨fun j h3 h4 => ?_, ?_⟩
        · by_cases e : j = b
          · subst e; exact h2
          · exact hI.1 j (by omega) h4
        · rcases hI.2 with z | ⟨j, j1, j2⟩
          · exact Or.inl z
          · exact Or.inr ⟨j, by omega, j2⟩
      · refine ih (b + 1) (by omega) (q b) (by omega) ⟨fun j h3 h4 => ?_, Or.inr ⟨b, by omega, h, rfl⟩⟩
        by_cases e : j = b
        · subst e; exact Nat.le_refl _
        · have := hI.1 j (by omega) h4
          omega
theorem rx_c4 {post : Int32 → SX → Prop} (hL : L ≤ 60) (hn : n ≤ 10) (hw : ∀ i, w i ≤ 5) (ht : ∀ i, t i ≤ 60)
    (K : ∀ (M : Nat) (q : Nat → Nat) (PL : Nat → Int32), rc_Q w t L q n → rc_M q n M → post (nI M) (nI L, nI n, fp, rA w, rA t, G, P, PL)) :
    ∀ r c, c + r = n → ∀ (M : Nat) (q : Nat → Nat) (PL : Nat → Int32), M ≤ 10 → (∀ j, j < c → PL j = nI (q j) ∧ q j ≤ j + 1) → rc_Q w t L q c → rc_M q c M → wX_content_4 post (nI L) (nI n) fp (r + 1) (nI M) (nI c) (rA w) (rA t) G P PL := by
  intro r
  induction r with
  | zero =>
    intro c hc M q PL hM10 hq hQ hM
    have e : c = n := by omega
    subst e
    rw [wX_content_4]
    exact br_t (nI_le (Nat.le_refl _) (by omega)) (K M q PL hQ hM)
  | succ r ih =>
    intro c hc M q PL hM10 hq hQ hM
    have w1 := hw c
    have t1 := ht c
    -- the step with the value v
    have step : ∀ v, v ≤ c + 1 → rc_P w t L q c v → wX_content_102 post (wX_content_4 post (nI L) (nI n) fp (r + 1)) (nI M) (nI c) (nI v) (nI c) (nI L) (nI n) fp (rA w) (rA t) G P PL := by
      intro v hv hP
      refine rx_c102 (by omega) hM10 (by omega) ?_
      refine ih (c + 1) (by omega) (max M v) (fun j => if j = c then v else q j) _ (by omega) ?_ (rc_Q_s hQ hP) (rc_M_s hM)
      intro j hj
      by_cases e : j = c
      · subst e
        rw [pk_us, if_pos rfl]
        exact ⟨rfl, hv⟩
      · rw [pk_un e, if_neg e]
        exact hq j (by omega)
    rw [wX_content_4]
    dsimp only
    refine br_f (nI_ge (by omega) (by omega)) ?_
    unfold wpX_fitsAtWish
    dsimp only
    rw [rA_cl (by omega), rA_cl (by omega), nI_add]
    refine ⟨vp_in_nI (by omega) (by omega), vp_in_nI (by omega) (by omega), ?_⟩
    refine pk_lt L (t c + w c) (fun h => ⟨1, ?_⟩) (fun h => ⟨c + 1, ?_⟩) rfl rfl (by omega) (by omega)
    · have fin : wX_content_85 post (wX_content_4 post (nI L) (nI n) fp (r + 1)) (nI M) (nI c) 0 0 (nI L) (nI n) fp (rA w) (rA t) G P PL := by
        unfold wX_content_85
        exact br_t rfl (step 0 (by omega) ⟨fun _ => rfl, fun g => by omega⟩)
      rw [wX_content_24]
      exact br_c (fun _ => fin) (fun _ => br_t rfl fin)
    · refine rx_c24 (q := q) (by omega) hw ht hq ?_ c 0 (by omega) 0 (by omega) ⟨fun j hj => by omega, Or.inl rfl⟩
      intro B hB hI
      unfold wX_content_85
      refine br_f (by decide) ?_
      rw [nI_1]
      refine step (B + 1) ?_ ⟨fun g => by omega, fun _ => ⟨fun b h1 h2 => ?_, by omega, ?_⟩⟩
      · rcases hI.2 with z | ⟨j, j1, _, j3⟩
        · omega
        · have := (hq j j1).2
          omega
      · have := hI.1 b h1 h2
        omega
      · rcases hI.2 with z | ⟨j, j1, j2, j3⟩
        · exact Or.inl (by omega)
        · exact Or.inr ⟨j, j1, j2, by omega⟩
theorem rx_content {post : Int32 → SX → Prop} (hL : L ≤ 60) (hn : n ≤ 10) (hw : ∀ i, w i ≤ 5) (ht : ∀ i, t i ≤ 60)
    (K : ∀ (M : Nat) (q : Nat → Nat) (PL : Nat → Int32), rc_Q w t L q n → rc_M q n M → post (nI M) (nI L, nI n, fp, rA w, rA t, G, P, PL)) : wpX_content post (nI L, nI n, fp, rA w, rA t, G, P, PL) := by
  show ∃ n4 : Nat, wX_content_4 post (nI L) (nI n) fp n4 (nI 0) (nI 0) (rA w) (rA t) G P PL
  exact ⟨n + 1, rx_c4 hL hn hw ht K n 0 (by omega) 0 (fun _ => 0) PL (by omega) (fun j hj => by omega) (fun j hj => by omega) ⟨fun j hj => by omega, Or.inl rfl⟩⟩
end
section
variable {G U Dn Ch : Nat → Int32} {w t : Nat → Nat} {n L : Nat}
theorem ry_bit {s i : Nat} (hs : s < 2 ^ 31) (hi : i < 32) : (nI s >>> (nI i &&& 31)) &&& 1 = nI (rc_b s i) := by
  have h := Nat.div_le_self s (2 ^ i)
  rw [pk_shrN hs _ i (s_l i hi), pk_andN (by omega) 1 (by decide)]
  rfl
theorem ry_ac4 {post : Int32 → Prop} {s : Nat} (hL : L ≤ 60) (hn : n ≤ 10) (hw : ∀ i, w i ≤ 5) (ht : ∀ i, t i ≤ 60) (hs : s < 2 ^ 31) (K1 : (∃ e, rc_V w t L (rc_b s) n e) → post 1) (K0 : ¬ (∃ e, rc_V w t L (rc_b s) n e) → post 0) :
    ∀ r i, i + r = n → ∀ e, e ≤ 65 → rc_V w t L (rc_b s) i e → wY_allContent_4 post (nI s) (nI L) (nI n) (rA w) (rA t) G U Dn Ch (r + 1) (nI e) (nI i) := by
  intro r
  induction r with
  | zero =>
    intro i hi e he hV
    have ei : i = n := by omega
    subst ei
    rw [wY_allContent_4]
    exact br_t (nI_le (Nat.le_refl _) (by omega)) (K1 ⟨e, hV⟩)
  | succ r ih =>
    intro i hi e he hV
    have w1 := hw i
    have t1 := ht i
    have b1 := rc_b_le s i
    -- what keeps the set from standing
    have no : rc_b s i = 1 → (t i < e ∨ L < t i + w i) → ¬ (∃ e, rc_V w t L (rc_b s) n e) := by
      intro hb h hh
      have en : n = i + 1 + r := by omega
      rw [en] at hh
      obtain ⟨e1, h1⟩ := rc_V_down r hh
      rcases h1 with ⟨_, e2, h2, h3, h4, _⟩ | ⟨h2, _⟩
      · have := rc_V_un i e e2 hV h2
        omega
      · exact h2 hb
    rw [wY_allContent_4]
    dsimp only
    rw [ry_bit hs (by omega), rA_cl (by omega), rA_cl (by omega), nI_add, nI_1]
    refine br_f (nI_ge (by omega) (by omega)) ?_
    refine pk_eq (rc_b s i) 1 (fun hb => ⟨vp_in_nI (by omega) (by omega), ?_⟩) (fun hb => nm_e ?_) rfl rfl (by omega) (by omega)
    · refine pk_lt (t i) e (fun h => K0 (no hb (Or.inl h))) (fun h => ⟨vp_in_nI (by omega) (by omega), vp_in_nI (by omega) (by omega), ?_⟩) rfl rfl (by omega) (by omega)
      refine pk_le (t i + w i) L (fun h2 => ⟨vp_in_nI (by omega) (by omega), vp_in_nI (by omega) (by omega), nm_e (nm_e ?_)⟩) (fun h2 => K0 (no hb (Or.inr h2))) rfl rfl (by omega) (by omega)
      exact ih (i + 1) (by omega) (t i + w i) (by omega) (Or.inl ⟨hb, e, hV, h, h2, rfl⟩)
    · exact ih (i + 1) (by omega) e he (Or.inr ⟨hb, hV⟩)
theorem ry_ac {post : Int32 → Prop} {s : Nat} (hL : L ≤ 60) (hn : n ≤ 10) (hw : ∀ i, w i ≤ 5) (ht : ∀ i, t i ≤ 60) (hs : s < 2 ^ 31) (K1 : (∃ e, rc_V w t L (rc_b s) n e) → post 1) (K0 : ¬ (∃ e, rc_V w t L (rc_b s) n e) → post 0) : wpY_allContent post (nI L, nI n, rA w, rA t, G, U, Dn, Ch) (nI s) := by
  show ∃ n4 : Nat, wY_allContent_4 post (nI s) (nI L) (nI n) (rA w) (rA t) G U Dn Ch n4 (nI 0) (nI 0)
  exact ⟨n + 1, ry_ac4 hL hn hw ht hs K1 K0 n 0 (by omega) 0 (by omega) rfl⟩
theorem ry_c19 {post : Int32 → Prop} {J : Int32 → Int32 → Prop} {s M : Nat} (hL : L ≤ 60) (hn : n ≤ 10) (hw : ∀ i, w i ≤ 5) (ht : ∀ i, t i ≤ 60) (hs : s < 2 ^ 30) (hM : M ≤ 10)
    (K0 : (rl_sm (rc_b s) n ≤ M ∨ ¬ (∃ e, rc_V w t L (rc_b s) n e)) → J (nI M) (nI (s + 1)))
    (K1 : M < rl_sm (rc_b s) n → (∃ e, rc_V w t L (rc_b s) n e) → J (nI (rl_sm (rc_b s) n)) (nI (s + 1))) :
    ∀ r i, i + r = n → wY_content_19 post J (nI M) (nI s) (nI L) (nI n) (rA w) (rA t) G U Dn Ch (r + 1) (nI (rl_sm (rc_b s) i)) (nI i) := by
  have bd : rl_sm (rc_b s) n ≤ n * 1 := rl_sm_le n (fun i _ => rc_b_le s i)
  intro r
  induction r with
  | zero =>
    intro i hi
    have ei : i = n := by omega
    subst ei
    rw [wY_content_19]
    dsimp only
    refine br_t (nI_le (Nat.le_refl _) (by omega)) ?_
    refine pk_le (rl_sm (rc_b s) i) M (fun h => nm_r (nI_1 s) (K0 (Or.inl h))) (fun h => ?_) rfl rfl (by omega) (by omega)
    refine ry_ac hL hn hw ht (by omega) (fun hv => br_f (by decide) (nm_r (nI_1 s) (K1 h hv))) (fun hv => br_t rfl (nm_r (nI_1 s) (K0 (Or.inr hv))))
  | succ r ih =>
    intro i hi
    rw [wY_content_19]
    dsimp only
    rw [ry_bit (by omega) (by omega), nI_add, nI_1 i]
    exact br_f (nI_ge (by omega) (by omega)) (nm_e (nm_e (ih (i + 1) (by omega))))
theorem ry_shl (hn : n ≤ 10) : (1 : Int32) <<< (nI n &&& 31) = nI (2 ^ n) := by
  have hp : 2 ^ n ≤ 2 ^ 10 := Nat.pow_le_pow_right (by omega) hn
  have h := pk_shlN (n := 1) (nI n &&& 31) n (s_l n (by omega)) (by omega)
  rw [Nat.one_mul] at h
  exact h
theorem ry_c4 {post : Int32 → Prop} (hL : L ≤ 60) (hn : n ≤ 10) (hw : ∀ i, w i ≤ 5) (ht : ∀ i, t i ≤ 60)
    (K : ∀ M', (∀ s, s < 2 ^ n → (∃ e, rc_V w t L (rc_b s) n e) → rl_sm (rc_b s) n ≤ M') → (M' = 0 ∨ ∃ s, (∃ e, rc_V w t L (rc_b s) n e) ∧ rl_sm (rc_b s) n = M') → post (nI M')) :
    ∀ r s, s + r = 2 ^ n → ∀ M, M ≤ 10 → (∀ s', s' < s → (∃ e, rc_V w t L (rc_b s') n e) → rl_sm (rc_b s') n ≤ M) → (M = 0 ∨ ∃ s', (∃ e, rc_V w t L (rc_b s') n e) ∧ rl_sm (rc_b s') n = M) → wY_content_4 post (nI L) (nI n) (rA w) (rA t) G U Dn Ch (r + 1) (nI M) (nI s) := by
  have hp : 2 ^ n ≤ 2 ^ 10 := Nat.pow_le_pow_right (by omega) hn
  intro r
  induction r with
  | zero =>
    intro s hs M hM h1 h2
    have e : s = 2 ^ n := by omega
    rw [wY_content_4]
    dsimp only
    rw [ry_shl hn]
    refine br_t (nI_le (by omega) (by omega)) (K M (fun s' h => h1 s' (by omega)) h2)
  | succ r ih =>
    intro s hs M hM h1 h2
    have bd : rl_sm (rc_b s) n ≤ n * 1 := rl_sm_le n (fun i _ => rc_b_le s i)
    rw [wY_content_4]
    dsimp only
    rw [ry_shl hn]
    refine br_f (nI_ge (by omega) (by omega)) ⟨n + 1, ?_⟩
    refine ry_c19 hL hn hw ht (by omega) hM (fun h => ?_) (fun h hv => ?_) n 0 (by omega)
    · refine ih (s + 1) (by omega) M hM (fun s' hs' hv => ?_) h2
      by_cases e : s' = s
      · subst e
        rcases h with h | h
        · exact h
        · exact absurd hv h
      · exact h1 s' (by omega) hv
    · refine ih (s + 1) (by omega) _ (by omega) (fun s' hs' hv' => ?_) (Or.inr ⟨s, hv, rfl⟩)
      by_cases e : s' = s
      · subst e; exact Nat.le_refl _
      · have := h1 s' (by omega) hv'
        omega
theorem ry_content {post : Int32 → Prop} (hL : L ≤ 60) (hn : n ≤ 10) (hw : ∀ i, w i ≤ 5) (ht : ∀ i, t i ≤ 60)
    (K : ∀ M', (∀ s, s < 2 ^ n → (∃ e, rc_V w t L (rc_b s) n e) → rl_sm (rc_b s) n ≤ M') → (M' = 0 ∨ ∃ s, (∃ e, rc_V w t L (rc_b s) n e) ∧ rl_sm (rc_b s) n = M') → post (nI M')) : wpY_content post (nI L, nI n, rA w, rA t, G, U, Dn, Ch) := by
  show ∃ n4 : Nat, wY_content_4 post (nI L) (nI n) (rA w) (rA t) G U Dn Ch n4 (nI 0) (nI 0)
  exact ⟨2 ^ n + 1, ry_c4 hL hn hw ht K (2 ^ n) 0 (by omega) 0 (by omega) (fun s' hs' => by omega) (Or.inl rfl)⟩
end
end
section
/-! the relation and what is owed -/
/-- the two objects hold the same row of cells; the tables, points and places are free -/
def i_Rel (k : Nat) (u : SX) (v : SY) : Prop := ∃ (w t g : Nat → Nat) (n L : Nat) (fp : Int32) (P PL U Dn Ch : Nat → Int32), rl_D w t g n L ∧ u = (nI L, nI n, fp, rA w, rA t, rA g, P, PL) ∧ v = (nI L, nI n, rA w, rA t, rA g, U, Dn, Ch)
theorem i_up {k : Nat} {u : SX} {v : SY} (h : i_Rel k u v) : i_Rel (k + 4) u v := h
theorem rr_mk {k : Nat} {w t g : Nat → Nat} {n L : Nat} {fp : Int32} {P PL U Dn Ch : Nat → Int32} (D : rl_D w t g n L) : i_Rel k (nI L, nI n, fp, rA w, rA t, rA g, P, PL) (nI L, nI n, rA w, rA t, rA g, U, Dn, Ch) := ⟨w, t, g, n, L, fp, P, PL, U, Dn, Ch, D, rfl, rfl⟩
theorem rr_0 {k L : Nat} (hL : L ≤ 60) : i_Rel k (nI L, 0, 0, fun _ => 0, fun _ => 0, fun _ => 0, fun _ => 0, fun _ => 0) (nI L, 0, fun _ => 0, fun _ => 0, fun _ => 0, fun _ => 0, fun _ => 0, fun _ => 0) :=
  ⟨fun _ => 0, fun _ => 0, fun _ => 0, 0, L, 0, fun _ => 0, fun _ => 0, fun _ => 0, fun _ => 0, fun _ => 0, ⟨hL, by omega, fun _ => Nat.zero_le _, fun _ => Nat.zero_le _, fun _ => Nat.zero_le _⟩, rfl, rfl⟩
theorem i_vc0 (k0 : Int32) : wpX_init (fun u => wpY_init (fun v => i_Rel 1 u v) k0) k0 := by
  unfold wpX_init wpY_init wX_init_55 wY_init_65
  by_cases h : 10 ≤ k0
  · refine br_t h ?_
    by_cases h2 : k0 ≤ 60
    · have h0 : ¬ k0 < 0 := Int32.not_lt.mpr (Int32.le_trans (by decide) h)
      obtain ⟨j, hj, rfl⟩ := nI_of2 (n := 60) (by decide) h0 h2
      exact br_t h2 (br_t h (br_t h2 (rr_0 hj)))
    · exact br_f h2 (br_t h (br_f h2 (rr_0 (L := 60) (by omega))))
  · exact br_f h (br_t (by decide) (br_f h (br_t (by decide) (rr_0 (L := 10) (by omega)))))
theorem rr_upd {f : Nat → Nat} {b c x : Nat} (h : ∀ i, f i ≤ b) (hx : x ≤ b) : ∀ i, (if i = c then x else f i) ≤ b := by
  intro i
  by_cases e : i = c
  · rw [if_pos e]; exact hx
  · rw [if_neg e]; exact h i
theorem rr_15 {v : Int32} (h1 : ¬ v < 1) (h2 : v ≤ 5) : ∃ a, a ≤ 5 ∧ v = nI a := by
  refine nI_of2 (by decide) (fun h => h1 ?_) h2
  exact Int32.lt_trans h (by decide)
theorem ry_bw {post : Int32 → Prop} {u : SY} {v : Int32} (h1 : ¬ v < 0) (h2 : v ≤ 60) (K : post 0) : wpY_badWish post u v := by
  obtain ⟨x1, x2, x3, x4, x5, x6, x7, x8⟩ := u
  unfold wpY_badWish
  exact br_f h1 (br_t h2 K)
theorem ry_bwx {post : Int32 → Prop} {u : SY} {v : Int32} (h : v < 0 ∨ ¬ v ≤ 60) (K : post 1) : wpY_badWish post u v := by
  obtain ⟨x1, x2, x3, x4, x5, x6, x7, x8⟩ := u
  unfold wpY_badWish
  by_cases h1 : v < 0
  · exact br_t h1 K
  · rcases h with h | h
    · exact absurd h h1
    · exact br_f h1 (br_f h K)
theorem ry_bg {post : Int32 → Prop} {u : SY} {v : Int32} (h1 : ¬ v < 1) (h2 : v ≤ 5) (K : post 0) : wpY_badWeight post u v := by
  obtain ⟨x1, x2, x3, x4, x5, x6, x7, x8⟩ := u
  unfold wpY_badWeight
  exact br_f h1 (br_t h2 K)
theorem ry_bgx {post : Int32 → Prop} {u : SY} {v : Int32} (h : v < 1 ∨ ¬ v ≤ 5) (K : post 1) : wpY_badWeight post u v := by
  obtain ⟨x1, x2, x3, x4, x5, x6, x7, x8⟩ := u
  unfold wpY_badWeight
  by_cases h1 : v < 1
  · exact br_t h1 K
  · rcases h with h | h
    · exact absurd h h1
    · exact br_f h1 (br_f h K)
theorem i_vc_append {k : Nat} {u : SX} {v : SY} (I : i_Rel k u v) (hk : k + 4 ≤ 2049) (v1 : Int32) (v2 : Int32) (v3 : Int32) : wpX_append (fun r u' => wpY_append (fun r' v' => r' = r ∧ i_Rel (k + 4) u' v') v v1 v2 v3) u v1 v2 v3 := by
  obtain ⟨w, t, g, n, L, fp, P, PL, U, Dn, Ch, D, rfl, rfl⟩ := I
  unfold wpX_append wpY_append
  dsimp only
  by_cases a1 : v1 < 1
  · exact br_t a1 (br_t a1 ⟨rfl, rr_mk D⟩)
  · refine br_f a1 ?_
    by_cases a2 : v1 ≤ 5
    · refine br_t a2 ?_
      by_cases b1 : v2 < 0
      · exact br_t b1 (br_f a1 (br_t a2 (ry_bwx (Or.inl b1) (br_f (by decide) ⟨rfl, rr_mk D⟩))))
      · refine br_f b1 ?_
        by_cases b2 : v2 ≤ 60
        · refine br_t b2 ?_
          by_cases c1 : v3 < 1
          · exact br_t c1 (br_f a1 (br_t a2 (ry_bw b1 b2 (br_t rfl (ry_bgx (Or.inl c1) (br_f (by decide) ⟨rfl, rr_mk D⟩))))))
          · refine br_f c1 ?_
            by_cases c2 : v3 ≤ 5
            · refine br_t c2 ?_
              have hn := D.2.1
              by_cases e : n = 10
              · subst e
                exact br_f (by decide) (br_f a1 (br_t a2 (ry_bw b1 b2 (br_t rfl (ry_bg c1 c2 (br_t rfl (br_t rfl ⟨rfl, rr_mk D⟩)))))))
              · obtain ⟨a, ha, rfl⟩ := rr_15 a1 a2
                obtain ⟨b, hb, rfl⟩ := nI_of2 (n := 60) (by decide) b1 b2
                obtain ⟨c, hc, rfl⟩ := rr_15 c1 c2
                have vi : vp_in (nI n) 10 := vp_in_nI (by omega) (by omega)
                have l10 : nI n < 10 := nI_lt (b := 10) (by omega) (by omega)
                have n10 : ¬ nI n = 10 := fun z => e ((nI_eq (b := 10) (by omega) (by omega)).mp z)
                rw [nI_clamp (by omega), rA_upd, rA_upd, rA_upd, nI_1]
                refine br_t l10 ⟨vi, nm_e ⟨vi, nm_e ⟨vi, nm_e (nm_e ?_)⟩⟩⟩
                refine br_f a1 (br_t a2 (ry_bw b1 b2 (br_t rfl (ry_bg c1 c2 (br_t rfl (br_f n10 ⟨vi, nm_e ⟨vi, nm_e ⟨vi, nm_e (nm_e ⟨rfl, rr_mk ?_⟩)⟩⟩⟩))))))
                obtain ⟨d1, d2, d3, d4, d5⟩ := D
                exact ⟨d1, by omega, rr_upd d3 ha, rr_upd d4 hb, rr_upd d5 hc⟩
            · exact br_f c2 (br_f a1 (br_t a2 (ry_bw b1 b2 (br_t rfl (ry_bgx (Or.inr c2) (br_f (by decide) ⟨rfl, rr_mk D⟩))))))
        · exact br_f b2 (br_f a1 (br_t a2 (ry_bwx (Or.inr b2) (br_f (by decide) ⟨rfl, rr_mk D⟩))))
    · exact br_f a2 (br_f a1 (br_f a2 ⟨rfl, rr_mk D⟩))
theorem rr_cell (n : Nat) (v : Int32) : (∃ c, c < n ∧ v = nI c) ∨ (∀ c, c < n → v ≠ nI c) := by
  by_cases h : ∃ c, c < n ∧ v = nI c
  · exact Or.inl h
  · exact Or.inr (fun c hc e => h ⟨c, hc, e⟩)
theorem i_vc_move {k : Nat} {u : SX} {v : SY} (I : i_Rel k u v) (hk : k + 4 ≤ 2049) (v1 : Int32) (v2 : Int32) : wpX_move (fun r u' => wpY_move (fun r' v' => r' = r ∧ i_Rel (k + 4) u' v') v v1 v2) u v1 v2 := by
  obtain ⟨w, t, g, n, L, fp, P, PL, U, Dn, Ch, D, rfl, rfl⟩ := I
  have hn := D.2.1
  unfold wpX_move wpY_move
  dsimp only
  rcases rr_cell n v1 with ⟨c, hc, rfl⟩ | hx
  · refine rx_noC hn hc (br_t rfl ?_)
    by_cases b1 : v2 < 0
    · exact br_t b1 (ry_badC hn hc (br_t rfl (ry_bwx (Or.inl b1) (br_f (by decide) ⟨rfl, rr_mk D⟩))))
    · refine br_f b1 ?_
      by_cases b2 : v2 ≤ 60
      · obtain ⟨b, hb, rfl⟩ := nI_of2 (n := 60) (by decide) b1 b2
        have vi : vp_in (nI c) 10 := vp_in_nI (by omega) (by omega)
        rw [nI_clamp (by omega), rA_upd]
        refine br_t b2 ⟨vi, nm_e ⟨vi, nm_e ?_⟩⟩
        refine ry_badC hn hc (br_t rfl (ry_bw b1 b2 (br_t rfl ⟨vi, nm_e ⟨vi, nm_e ⟨rfl, rr_mk ?_⟩⟩⟩)))
        obtain ⟨d1, d2, d3, d4, d5⟩ := D
        exact ⟨d1, d2, d3, rr_upd d4 hb, d5⟩
      · exact br_f b2 (ry_badC hn hc (br_t rfl (ry_bwx (Or.inr b2) (br_f (by decide) ⟨rfl, rr_mk D⟩))))
  · exact rx_noCx hn hx (br_f (by decide) (ry_badCx hn hx (br_f (by decide) ⟨rfl, rr_mk D⟩)))
theorem i_vc_reweigh {k : Nat} {u : SX} {v : SY} (I : i_Rel k u v) (hk : k + 4 ≤ 2049) (v1 : Int32) (v2 : Int32) : wpX_reweigh (fun r u' => wpY_reweigh (fun r' v' => r' = r ∧ i_Rel (k + 4) u' v') v v1 v2) u v1 v2 := by
  obtain ⟨w, t, g, n, L, fp, P, PL, U, Dn, Ch, D, rfl, rfl⟩ := I
  have hn := D.2.1
  unfold wpX_reweigh wpY_reweigh
  dsimp only
  rcases rr_cell n v1 with ⟨c, hc, rfl⟩ | hx
  · refine rx_noC hn hc (br_t rfl ?_)
    by_cases b1 : v2 < 1
    · exact br_t b1 (ry_badC hn hc (br_t rfl (ry_bgx (Or.inl b1) (br_f (by decide) ⟨rfl, rr_mk D⟩))))
    · refine br_f b1 ?_
      by_cases b2 : v2 ≤ 5
      · obtain ⟨b, hb, rfl⟩ := rr_15 b1 b2
        have vi : vp_in (nI c) 10 := vp_in_nI (by omega) (by omega)
        rw [nI_clamp (by omega), rA_upd]
        refine br_t b2 ⟨vi, nm_e ⟨vi, nm_e ?_⟩⟩
        refine ry_badC hn hc (br_t rfl (ry_bg b1 b2 (br_t rfl ⟨vi, nm_e ⟨vi, nm_e ⟨rfl, rr_mk ?_⟩⟩⟩)))
        obtain ⟨d1, d2, d3, d4, d5⟩ := D
        exact ⟨d1, d2, d3, d4, rr_upd d5 hb⟩
      · exact br_f b2 (ry_badC hn hc (br_t rfl (ry_bgx (Or.inr b2) (br_f (by decide) ⟨rfl, rr_mk D⟩))))
  · exact rx_noCx hn hx (br_f (by decide) (ry_badCx hn hx (br_f (by decide) ⟨rfl, rr_mk D⟩)))
theorem rr_lt1 {j n : Nat} (hj : j < 2 ^ 31) (hn : n ≤ 10) : nI j < nI n - 1 ↔ j + 1 < n := by
  rw [show (1 : Int32) = nI 1 from rfl, Int32.lt_iff_toInt_lt, pk_sub_toInt (by omega) (by omega), nI_toInt hj]
  omega
theorem i_vc_exchange {k : Nat} {u : SX} {v : SY} (I : i_Rel k u v) (hk : k + 4 ≤ 2049) (v1 : Int32) : wpX_exchange (fun r u' => wpY_exchange (fun r' v' => r' = r ∧ i_Rel (k + 4) u' v') v v1) u v1 := by
  obtain ⟨w, t, g, n, L, fp, P, PL, U, Dn, Ch, D, rfl, rfl⟩ := I
  have hn := D.2.1
  unfold wpX_exchange wpY_exchange
  dsimp only
  rcases rr_cell n v1 with ⟨c, hc, rfl⟩ | hx
  · refine rx_noC hn hc (br_t rfl ?_)
    rw [nI_1]
    by_cases e : c + 1 < n
    · have vi : vp_in (nI c) 10 := vp_in_nI (by omega) (by omega)
      have vj : vp_in (nI (c + 1)) 10 := vp_in_nI (by omega) (by omega)
      rw [rA_cl (f := w) (c := c) (by omega), rA_cl (f := w) (c := c + 1) (by omega), rA_cl (f := t) (c := c) (by omega), rA_cl (f := t) (c := c + 1) (by omega), rA_cl (f := g) (c := c) (by omega), rA_cl (f := g) (c := c + 1) (by omega), nI_clamp (n := c) (by omega), nI_clamp (n := c + 1) (by omega), rA_upd, rA_upd, rA_upd]
      refine rx_noC hn e (br_t rfl ⟨vi, nm_e ⟨vj, vi, nm_e ⟨vj, nm_e ⟨vi, nm_e ⟨vj, vi, nm_e ⟨vj, nm_e ⟨vi, nm_e ⟨vj, vi, nm_e ⟨vj, nm_e ?_⟩⟩⟩⟩⟩⟩⟩⟩⟩)
      refine br_f (nI_pos (by omega)) (br_t ((rr_lt1 (by omega) hn).mpr e) ⟨vi, nm_e ⟨vi, nm_e ⟨vi, nm_e ⟨vj, vi, nm_e ⟨vj, vi, nm_e ⟨vj, vi, nm_e ⟨vj, nm_e ⟨vj, nm_e ⟨vj, nm_e ⟨rfl, ?_⟩⟩⟩⟩⟩⟩⟩⟩⟩⟩)
      rw [rA_upd, rA_upd, rA_upd]
      refine rr_mk ?_
      obtain ⟨d1, d2, d3, d4, d5⟩ := D
      exact ⟨d1, d2, rr_upd (rr_upd d3 (d3 _)) (d3 _), rr_upd (rr_upd d4 (d4 _)) (d4 _), rr_upd (rr_upd d5 (d5 _)) (d5 _)⟩
    · refine rx_noCx hn (fun j hj z => ?_) (br_f (by decide) ?_)
      · rw [nI_eq (by omega) (by omega)] at z
        omega
      · exact br_f (nI_pos (by omega)) (br_f (fun z => e ((rr_lt1 (by omega) hn).mp z)) ⟨rfl, rr_mk D⟩)
  · refine rx_noCx hn hx (br_f (by decide) ?_)
    by_cases h : v1 < 0
    · exact br_t h ⟨rfl, rr_mk D⟩
    · obtain ⟨j, hj, rfl⟩ := nI_of h
      refine br_f h (br_f (fun z => ?_) ⟨rfl, rr_mk D⟩)
      have := (rr_lt1 hj hn).mp z
      exact hx j (by omega) rfl
theorem i_vc_drop {k : Nat} {u : SX} {v : SY} (I : i_Rel k u v) (hk : k + 4 ≤ 2049) : wpX_drop (fun r u' => wpY_drop (fun r' v' => r' = r ∧ i_Rel (k + 4) u' v') v) u := by
  obtain ⟨w, t, g, n, L, fp, P, PL, U, Dn, Ch, D, rfl, rfl⟩ := I
  have hn := D.2.1
  unfold wpX_drop wpY_drop
  dsimp only
  cases n with
  | zero => exact br_t rfl (br_t rfl ⟨rfl, rr_mk D⟩)
  | succ n =>
    rw [nI_pred]
    have h0 : ¬ nI (n + 1) = 0 := nI_ne0 (by omega) (by omega)
    refine br_f h0 (nm_e (br_f h0 (nm_e ⟨rfl, rr_mk ?_⟩)))
    obtain ⟨d1, d2, d3⟩ := D
    exact ⟨d1, by omega, d3⟩
theorem ry_costOf {post : Int32 → SY → Prop} {w t g : Nat → Nat} {n L m : Nat} {U Dn Ch : Nat → Int32} (D : rl_D w t g n L) (hm : m ≤ n) (K : ∀ U : Nat → Int32, post (rl_an (rl_mc w t g 0 0 m L)) (nI L, nI n, rA w, rA t, rA g, U, Dn, Ch)) : wpY_costOf post (nI L, nI n, rA w, rA t, rA g, U, Dn, Ch) (nI m) := by
  have hL := D.1
  have hn := D.2.1
  unfold wpY_costOf
  dsimp only
  refine br_f (nI_pos (by omega)) (br_t (nI_le hm (by omega)) ?_)
  cases m with
  | zero =>
    have k := K U
    rw [rl_mc_0 (Nat.zero_le _), rl_an_p (by omega)] at k
    exact br_t rfl k
  | succ m =>
    refine br_f (nI_ne0 (by omega) (by omega)) ?_
    refine ry_fillUp D (by omega) (fun U' hU => ?_)
    dsimp only
    rw [nI_pred]
    refine ry_leastUp D (by omega) hU ?_
    have k := K U'
    have hb := rl_mc_le D (f := 0) (l := 0) (d := m + 1) (r := L) hL (by omega)
    refine pk_eq (rl_mc w t g 0 0 (m + 1) L) 1000000 (fun h => ?_) (fun h => ?_) rfl rfl (by omega) (by omega)
    · rw [h, rl_an_n] at k
      exact k
    · rw [rl_an_p h] at k
      exact k
theorem i_vc_cost {k : Nat} {u : SX} {v : SY} (I : i_Rel k u v) (hk : k + 4 ≤ 2049) : wpX_cost (fun r u' => wpY_cost (fun r' v' => r' = r ∧ i_Rel (k + 4) u' v') v) u := by
  obtain ⟨w, t, g, n, L, fp, P, PL, U, Dn, Ch, D, rfl, rfl⟩ := I
  unfold wpX_cost wpY_cost
  dsimp only
  refine rx_part (f := 0) (l := 0) D (Nat.zero_add n) D.2.1 (by omega) D.1 (fun fp' P' => ?_)
  refine ry_costOf D (Nat.le_refl _) (fun U' => ?_)
  exact ⟨rfl, rr_mk D⟩
theorem i_vc_costOf {k : Nat} {u : SX} {v : SY} (I : i_Rel k u v) (hk : k + 4 ≤ 2049) (v1 : Int32) : wpX_costOf (fun r u' => wpY_costOf (fun r' v' => r' = r ∧ i_Rel (k + 4) u' v') v v1) u v1 := by
  obtain ⟨w, t, g, n, L, fp, P, PL, U, Dn, Ch, D, rfl, rfl⟩ := I
  have hn := D.2.1
  unfold wpX_costOf
  dsimp only
  by_cases h : v1 < 0
  · refine br_t h ?_
    unfold wpY_costOf
    exact br_t h ⟨rfl, rr_mk D⟩
  · obtain ⟨m, hm, rfl⟩ := nI_of h
    refine br_f h ?_
    refine pk_le m n (fun e => ?_) (fun e => ?_) rfl rfl hm (by omega)
    · refine rx_part (f := 0) (l := 0) D (Nat.zero_add m) (by omega) (by omega) D.1 (fun fp' P' => ?_)
      refine ry_costOf D e (fun U' => ?_)
      exact ⟨rfl, rr_mk D⟩
    · unfold wpY_costOf
      exact br_f h (br_f (nI_ge e hm) ⟨rfl, rr_mk D⟩)
theorem i_vc_leftmost {k : Nat} {u : SX} {v : SY} (I : i_Rel k u v) (hk : k + 4 ≤ 2049) (v1 : Int32) : wpX_leftmost (fun r u' => wpY_leftmost (fun r' v' => r' = r ∧ i_Rel (k + 4) u' v') v v1) u v1 := by
  obtain ⟨w, t, g, n, L, fp, P, PL, U, Dn, Ch, D, rfl, rfl⟩ := I
  have hL := D.1
  have hn := D.2.1
  unfold wpX_leftmost
  dsimp only
  rcases rr_cell n v1 with ⟨c, hc, rfl⟩ | hx
  · refine rx_noC hn hc (br_t rfl ?_)
    unfold wpX_cost
    dsimp only
    refine rx_part (f := 0) (l := 0) D (Nat.zero_add n) hn (by omega) hL (fun fp' P' => ?_)
    dsimp only
    have hb := rl_mc_le D (f := 0) (l := 0) (d := n) (r := L) hL hn
    -- the reference down to the loop
    have Y : ∀ post : Int32 → SY → Prop, (∀ U' : Nat → Int32, ry_R (rl_up w t g L) n U' → (rl_mc w t g 0 0 n L = 1000000 → post (-6) (nI L, nI n, rA w, rA t, rA g, U', Dn, Ch)) ∧ (rl_mc w t g 0 0 n L ≠ 1000000 → ∃ N, wY_leftmost_50 post (nI c) (nI L) (nI n) N (nI (rl_mc w t g 0 0 n L)) (nI 60) (nI (n - 1)) (rA w) (rA t) (rA g) U' Dn Ch)) → wpY_leftmost post (nI L, nI n, rA w, rA t, rA g, U, Dn, Ch) (nI c) := by
      intro post H
      obtain ⟨m, rfl⟩ : ∃ m, n = m + 1 := ⟨n - 1, by omega⟩
      unfold wpY_leftmost
      dsimp only
      refine ry_badC hn hc (br_t rfl ?_)
      refine ry_fillUp D hn (fun U' hU => ?_)
      dsimp only
      rw [nI_pred]
      refine ry_leastUp D (by omega) hU ?_
      obtain ⟨H1, H2⟩ := H U' hU
      exact pk_eq (rl_mc w t g 0 0 (m + 1) L) 1000000 H1 (fun h => nm_e (H2 h)) rfl rfl (by omega) (by omega)
    by_cases hm : rl_mc w t g 0 0 n L = 1000000
    · rw [hm, rl_an_n]
      exact br_t rfl (Y _ (fun U' hU => ⟨fun _ => ⟨rfl, rr_mk D⟩, fun h => absurd hm h⟩))
    · rw [rl_an_p hm]
      refine br_f (rl_nI6 (by omega)) ?_
      refine rx_places D (by omega) hm (fun fp2 P2 PL2 hPL => ?_)
      dsimp only
      rw [nI_clamp (by omega), hPL c hc]
      refine ⟨vp_in_nI (by omega) (by omega), ?_⟩
      refine Y _ (fun U' hU => ⟨fun h => absurd h hm, fun _ => ⟨n + 1, ?_⟩⟩)
      obtain ⟨m, rfl⟩ : ∃ m, n = m + 1 := ⟨n - 1, by omega⟩
      obtain ⟨r1, r2⟩ := rl_R_ok D hm 0 m (by omega)
      obtain ⟨i1, _, _⟩ := rl_lf_in D (by omega) (by omega) r2
      have f := ry_l50 (Dn := Dn) (post := fun r' v' => r' = nI (rl_lf w t g c (rl_R w t g (m + 1) L c)) ∧ i_Rel (k + 4) (nI L, nI (m + 1), fp2, rA w, rA t, rA g, P2, PL2) v') (c := c) D hm hU (fun Ch' => ⟨rfl, rr_mk D⟩) m (by omega) (by omega) Ch 60 (by omega) (by omega) (m + 1 + 1) (by omega)
      rw [rl_R_last] at f
      exact f
  · refine rx_noCx hn hx (br_f (by decide) ?_)
    unfold wpY_leftmost
    exact ry_badCx hn hx (br_f (by decide) ⟨rfl, rr_mk D⟩)
theorem i_vc_costAt {k : Nat} {u : SX} {v : SY} (I : i_Rel k u v) (hk : k + 4 ≤ 2049) (v1 : Int32) (v2 : Int32) : wpX_costAt (fun r u' => wpY_costAt (fun r' v' => r' = r ∧ i_Rel (k + 4) u' v') v v1 v2) u v1 v2 := by
  obtain ⟨w, t, g, n, L, fp, P, PL, U, Dn, Ch, D, rfl, rfl⟩ := I
  have hL := D.1
  have hn := D.2.1
  unfold wpX_costAt
  dsimp only
  rcases rr_cell n v1 with ⟨c, hc, rfl⟩ | hx
  · refine rx_noC hn hc (br_t rfl ?_)
    by_cases h : v2 < 0
    · unfold wpX_upTo
      refine br_t h (br_t rfl ?_)
      unfold wpY_costAt
      exact ry_badC hn hc (br_t rfl (br_t h ⟨rfl, rr_mk D⟩))
    · obtain ⟨x, hx, rfl⟩ := nI_of h
      have hw := D.2.2.1 c
      have ht := D.2.2.2.1 c
      by_cases h60 : x ≤ 60
      · have hgd := rl_gd D (x := x) (i := c) h60
        -- the reference's answer
        have Y : ∀ post : Int32 → SY → Prop, (∀ U' Dn' : Nat → Int32, post (rl_an (if x + w c ≤ L then (if rl_mc w t g 0 0 c x = 1000000 then 1000000 else if rl_mc w t g (c + 1) (x + w c) (n - (c + 1)) L = 1000000 then 1000000 else rl_mc w t g 0 0 c x + g c * rl_ds x (t c) + rl_mc w t g (c + 1) (x + w c) (n - (c + 1)) L) else 1000000)) (nI L, nI n, rA w, rA t, rA g, U', Dn', Ch)) → wpY_costAt post (nI L, nI n, rA w, rA t, rA g, U, Dn, Ch) (nI c) (nI x) := by
          intro post H
          unfold wpY_costAt
          dsimp only
          refine ry_badC hn hc (br_t rfl (br_f h (br_t (nI_le (b := 60) h60 (by omega)) ?_)))
          refine ry_fillUp D hn (fun U' hU => ?_)
          dsimp only
          refine ry_fillDown D (by omega) (fun Dn' hDn => ?_)
          dsimp only
          rw [ry_ix, nI_clamp (by omega), hU c hc x (by omega), hDn c (by omega) hc x (by omega)]
          refine ⟨vp_in_nI (by omega) (by omega), vp_in_nI (by omega) (by omega), ?_⟩
          refine ry_sum rl_up_le rl_dn_le ?_
          have k1 := H U' Dn'
          refine pk_eq (min (rl_up w t g L c x + rl_dn w t g n L c x) 1000000) 1000000 (fun e => ?_) (fun e => ?_) rfl rfl (by omega) (by omega)
          · by_cases g1 : x + w c ≤ L
            · have eo : rl_ow w t g L c x = g c * rl_ds x (t c) := if_pos g1
              unfold rl_up rl_dn at e
              rw [eo] at e
              rw [if_pos g1] at k1
              by_cases g2 : rl_mc w t g 0 0 c x = 1000000
              · rw [if_pos g2, rl_an_n] at k1
                exact k1
              · rw [if_neg g2] at k1
                by_cases g3 : rl_mc w t g (c + 1) (x + w c) (n - (c + 1)) L = 1000000
                · rw [if_pos g3, rl_an_n] at k1
                  exact k1
                · have r1 := rl_mc_rg D (f := 0) (l := 0) (d := c) (r := x) h60 (by omega)
                  have r2 := rl_mc_rg D (f := c + 1) (l := x + w c) (d := n - (c + 1)) (r := L) hL (by omega)
                  omega
            · rw [if_neg g1, rl_an_n] at k1
              exact k1
          · refine ry_own D (by omega) h60 ?_
            by_cases g1 : x + w c ≤ L
            · have eo : rl_ow w t g L c x = g c * rl_ds x (t c) := if_pos g1
              unfold rl_up rl_dn at e ⊢
              rw [eo] at e ⊢
              rw [if_pos g1, if_neg (by omega), if_neg (by omega), rl_an_p (by omega)] at k1
              rw [pk_sub (by omega)]
              have e2 : min (min (rl_mc w t g 0 0 c x + g c * rl_ds x (t c)) 1000000 + min (rl_mc w t g (c + 1) (x + w c) (n - (c + 1)) L + g c * rl_ds x (t c)) 1000000) 1000000 - g c * rl_ds x (t c) = rl_mc w t g 0 0 c x + g c * rl_ds x (t c) + rl_mc w t g (c + 1) (x + w c) (n - (c + 1)) L := by
                omega
              rw [e2]
              exact k1
            · have eo : rl_ow w t g L c x = 1000000 := if_neg g1
              unfold rl_up at e
              rw [eo, Nat.min_eq_right (Nat.le_add_left 1000000 _)] at e
              exact absurd (Nat.min_eq_right (Nat.le_add_right 1000000 _)) e
        refine rx_upTo D (by omega) h60 hL (fun fp' P' => ?_)
        dsimp only
        by_cases g1 : x + w c ≤ L
        · have eo : rl_ow w t g L c x = g c * rl_ds x (t c) := if_pos g1
          unfold rl_up
          rw [eo]
          by_cases g2 : rl_mc w t g 0 0 c x = 1000000
          · rw [show min (rl_mc w t g 0 0 c x + g c * rl_ds x (t c)) 1000000 = 1000000 by omega, rl_an_n]
            refine br_t rfl (Y _ (fun U' Dn' => ?_))
            rw [if_pos g1, if_pos g2, rl_an_n]
            exact ⟨rfl, rr_mk D⟩
          · have r1 := rl_mc_rg D (f := 0) (l := 0) (d := c) (r := x) h60 (by omega)
            rw [show min (rl_mc w t g 0 0 c x + g c * rl_ds x (t c)) 1000000 = rl_mc w t g 0 0 c x + g c * rl_ds x (t c) by omega, rl_an_p (by omega)]
            refine br_f (rl_nI6 (by omega)) ⟨vp_in_nI (by omega) (by omega), ?_⟩
            rw [rA_cl (by omega), nI_add, nI_1]
            refine rx_part (d := n - (c + 1)) D (by omega) hn (by omega) hL (fun fp2 P2 => ?_)
            dsimp only
            by_cases g3 : rl_mc w t g (c + 1) (x + w c) (n - (c + 1)) L = 1000000
            · rw [g3, rl_an_n]
              refine br_t rfl (Y _ (fun U' Dn' => ?_))
              rw [if_pos g1, if_neg g2, if_pos g3, rl_an_n]
              exact ⟨rfl, rr_mk D⟩
            · have r2 := rl_mc_rg D (f := c + 1) (l := x + w c) (d := n - (c + 1)) (r := L) hL (by omega)
              rw [rl_an_p g3]
              refine br_f (rl_nI6 (by omega)) (Y _ (fun U' Dn' => ?_))
              rw [if_pos g1, if_neg g2, if_neg g3, rl_an_p (by omega), nI_add]
              exact ⟨rfl, rr_mk D⟩
        · have eo : rl_ow w t g L c x = 1000000 := if_neg g1
          unfold rl_up
          rw [eo, show min (rl_mc w t g 0 0 c x + 1000000) 1000000 = 1000000 from Nat.min_eq_right (Nat.le_add_left _ _), rl_an_n]
          refine br_t rfl (Y _ (fun U' Dn' => ?_))
          rw [if_neg g1, rl_an_n]
          exact ⟨rfl, rr_mk D⟩
      · unfold wpX_upTo
        dsimp only
        rw [rA_cl (by omega)]
        refine br_f h ⟨vp_in_nI (by omega) (by omega), br_f (fun z => ?_) (br_t rfl ?_)⟩
        · rw [Int32.le_iff_toInt_le, pk_sub_toInt (by omega) (by omega), nI_toInt hx] at z
          omega
        · unfold wpY_costAt
          exact ry_badC hn hc (br_t rfl (br_f h (br_f (nI_ge (a := 60) (by omega) hx) ⟨rfl, rr_mk D⟩)))
  · refine rx_noCx hn hx (br_f (by decide) ?_)
    unfold wpY_costAt
    exact ry_badCx hn hx (br_f (by decide) ⟨rfl, rr_mk D⟩)
theorem rr_sss (x y z : Int32) : x - y - z = x - (y + z) := by grind
theorem ry_room7 {post : Int32 → Prop} {w : Nat → Nat} {n L : Nat} {T G U Dn Ch : Nat → Int32} (hn : n ≤ 10) (K : post (nI L - nI (rl_B w 0 n))) : ∀ r i, i + r = n → wY_room_7 post (nI L) (nI n) (rA w) T G U Dn Ch (r + 1) (nI L - nI (rl_B w 0 i)) (nI i) := by
  intro r
  induction r with
  | zero =>
    intro i hi
    have e : i = n := by omega
    subst e
    rw [wY_room_7]
    exact br_t (nI_le (Nat.le_refl _) (by omega)) K
  | succ r ih =>
    intro i hi
    have e : rl_B w 0 (i + 1) = rl_B w 0 i + w i := by
      show rl_B w 0 i + w (0 + i) = _
      rw [Nat.zero_add]
    have h := ih (i + 1) (by omega)
    rw [wY_room_7]
    dsimp only
    rw [rA_cl (by omega), rr_sss, nI_add, nI_1, ← e]
    exact br_f (nI_ge (by omega) (by omega)) ⟨vp_in_nI (by omega) (by omega), nm_e (nm_e h)⟩
theorem i_vc_room {k : Nat} {u : SX} {v : SY} (I : i_Rel k u v) (hk : k + 4 ≤ 2049) : wpX_room (fun r => wpY_room (fun r' => r' = r ∧ i_Rel (k + 4) u v) v) u := by
  obtain ⟨w, t, g, n, L, fp, P, PL, U, Dn, Ch, D, rfl, rfl⟩ := I
  have hn := D.2.1
  unfold wpX_room
  dsimp only
  refine rx_width (f := 0) (Nat.zero_add n) hn ?_
  have h := ry_room7 (post := fun r' => r' = nI L - nI (rl_B w 0 n) ∧ i_Rel (k + 4) (nI L, nI n, fp, rA w, rA t, rA g, P, PL) (nI L, nI n, rA w, rA t, rA g, U, Dn, Ch)) (w := w) (L := L) (T := rA t) (G := rA g) (U := U) (Dn := Dn) (Ch := Ch) hn ⟨rfl, rr_mk D⟩ n 0 (by omega)
  have e : nI L - nI (rl_B w 0 0) = nI L := by
    show nI L - nI 0 = nI L
    rw [nI_0, Int32.sub_zero]
  rw [e] at h
  exact ⟨n + 1, h⟩
theorem i_vc_content {k : Nat} {u : SX} {v : SY} (I : i_Rel k u v) (hk : k + 4 ≤ 2049) : wpX_content (fun r u' => wpY_content (fun r' => r' = r ∧ i_Rel (k + 4) u' v) v) u := by
  obtain ⟨w, t, g, n, L, fp, P, PL, U, Dn, Ch, D, rfl, rfl⟩ := I
  have hL := D.1
  have hn := D.2.1
  refine rx_content hL hn D.2.2.1 D.2.2.2.1 (fun M q PL' hQ hM => ?_)
  refine ry_content hL hn D.2.2.1 D.2.2.2.1 (fun M' h1 h2 => ?_)
  rw [rc_main hQ hM h1 h2]
  exact ⟨rfl, rr_mk D⟩
end
