section
/-! ===== bits of an Int32 (mb_t .. mb_sshr: the bt family of BITS.to-paste, renamed), and counting them ===== -/
def mb_t (x : Int32) (i : Nat) : Bool := x.toBitVec.getLsbD i
theorem mb_ext {x y : Int32} (h : ∀ i, i < 32 → mb_t x i = mb_t y i) : x = y := Int32.toBitVec_inj.mp (BitVec.eq_of_getLsbD_eq (fun i hi => h i hi))
theorem mb_or (x y : Int32) (i : Nat) : mb_t (x ||| y) i = (mb_t x i || mb_t y i) := by unfold mb_t; rw [Int32.toBitVec_or, BitVec.getLsbD_or]
theorem mb_and (x y : Int32) (i : Nat) : mb_t (x &&& y) i = (mb_t x i && mb_t y i) := by unfold mb_t; rw [Int32.toBitVec_and, BitVec.getLsbD_and]
theorem mb_xor (x y : Int32) (i : Nat) : mb_t (x ^^^ y) i = (mb_t x i ^^ mb_t y i) := by unfold mb_t; rw [Int32.toBitVec_xor, BitVec.getLsbD_xor]
theorem mb_big {x : Int32} {i : Nat} (h : 32 ≤ i) : mb_t x i = false := BitVec.getLsbD_of_ge _ _ h
theorem mb_m1 : ∀ i, i < 32 → mb_t (-1) i = true := by decide +kernel
theorem mb_0 (i : Nat) : mb_t 0 i = false := BitVec.getLsbD_zero
theorem mb_sl : ∀ n, n < 32 → ((nI n &&& 31).toBitVec.smod 32).toNat = n := by decide +kernel
theorem mb_shl (n : Nat) (hn : n < 32) (x : Int32) {i : Nat} (hi : i < 32) : mb_t (x <<< (nI n &&& 31)) i = (decide (n ≤ i) && mb_t x (i - n)) := by
  unfold mb_t
  rw [Int32.toBitVec_shiftLeft]
  show (x.toBitVec <<< ((nI n &&& 31).toBitVec.smod 32).toNat).getLsbD i = _
  rw [mb_sl n hn, BitVec.getLsbD_shiftLeft]
  rcases Nat.lt_or_ge i n with h | h
  · simp [h, Nat.not_le.mpr h]
  · simp [hi, h, Nat.not_lt.mpr h]
theorem mb_sshr (n : Nat) (hn : n < 32) (x : Int32) {i : Nat} (hi : i < 32) : mb_t (x >>> (nI n &&& 31)) i = if n + i < 32 then mb_t x (n + i) else mb_t x 31 := by
  unfold mb_t
  rw [Int32.toBitVec_shiftRight]
  show (x.toBitVec.sshiftRight ((nI n &&& 31).toBitVec.smod 32).toNat).getLsbD i = _
  rw [mb_sl n hn, BitVec.getLsbD_sshiftRight, BitVec.msb_eq_getLsbD_last]
  simp [hi]
theorem mb_1 (i : Nat) : mb_t 1 i = decide (i = 0) := by
  rcases Nat.lt_or_ge i 32 with h | h
  · exact (by decide +kernel : ∀ i, i < 32 → mb_t 1 i = decide (i = 0)) i h
  · rw [mb_big h, decide_eq_false (show ¬ i = 0 by omega)]
theorem mb_bit (x : Int32) {f : Nat} (hf : f < 18) : ((x >>> (nI f &&& 31)) &&& 1) = if mb_t x f = true then 1 else 0 := by
  apply mb_ext
  intro i hi
  rw [mb_and, mb_1, mb_sshr f (by omega) x hi]
  by_cases h0 : i = 0
  · subst h0
    rw [if_pos (show f + 0 < 32 by omega), Nat.add_zero]
    by_cases hb : mb_t x f = true
    · rw [if_pos hb, hb]
      exact (by decide : (true && decide ((0 : Nat) = 0)) = mb_t 1 0)
    · rw [if_neg hb, Bool.eq_false_iff.mpr hb]
      exact (by decide : (false && decide ((0 : Nat) = 0)) = mb_t 0 0)
  · rw [decide_eq_false h0, Bool.and_false]
    by_cases hb : mb_t x f = true
    · rw [if_pos hb, mb_1, decide_eq_false h0]
    · rw [if_neg hb, mb_0]
theorem mb_b1 (x : Int32) {f : Nat} (hf : f < 18) : ((x >>> (nI f &&& 31)) &&& 1) = 1 ↔ mb_t x f = true := by
  rw [mb_bit x hf]
  by_cases h : mb_t x f = true
  · rw [if_pos h]
    exact ⟨fun _ => h, fun _ => rfl⟩
  · rw [if_neg h]
    exact ⟨fun z => absurd z (by decide), fun z => absurd z h⟩
theorem mb_b0 (x : Int32) {f : Nat} (hf : f < 18) : ((x >>> (nI f &&& 31)) &&& 1) = 0 ↔ mb_t x f = false := by
  rw [mb_bit x hf]
  by_cases h : mb_t x f = true
  · rw [if_pos h]
    exact ⟨fun z => absurd z (by decide), fun z => absurd (h.symm.trans z) (by decide)⟩
  · rw [if_neg h]
    exact ⟨fun _ => Bool.eq_false_iff.mpr h, fun _ => rfl⟩
theorem mb_one {f : Nat} (hf : f < 32) (i : Nat) : mb_t ((1 : Int32) <<< (nI f &&& 31)) i = decide (i = f) := by
  rcases Nat.lt_or_ge i 32 with h | h
  · rw [mb_shl f hf 1 h, mb_1]
    by_cases e : i = f
    · exact (by rw [decide_eq_true e, decide_eq_true (show f ≤ i by omega), decide_eq_true (show i - f = 0 by omega)]; decide)
    · rw [decide_eq_false e]
      by_cases g : f ≤ i
      · rw [decide_eq_false (show ¬ i - f = 0 by omega), Bool.and_false]
      · rw [decide_eq_false g, Bool.false_and]
  · rw [mb_big h, decide_eq_false (show ¬ i = f by omega)]
theorem mb_sub {x p : Int32} : (x &&& (p ^^^ (-1))) = 0 ↔ ∀ i, mb_t x i = true → mb_t p i = true := by
  constructor
  · intro h i hx
    rcases Nat.lt_or_ge i 32 with hi | hi
    · have e : mb_t (x &&& (p ^^^ (-1))) i = false := by rw [h, mb_0]
      rw [mb_and, mb_xor, mb_m1 i hi, hx] at e
      cases hp : mb_t p i
      · rw [hp] at e
        exact absurd e (by decide)
      · rfl
    · rw [mb_big hi] at hx
      exact absurd hx (by decide)
  · intro h
    apply mb_ext
    intro i hi
    rw [mb_and, mb_xor, mb_m1 i hi, mb_0]
    cases hx : mb_t x i
    · rfl
    · rw [h i hx]
      rfl
/-- how many of the first n are set -/
def mb_c (p : Nat → Bool) : Nat → Nat
  | 0 => 0
  | n + 1 => mb_c p n + (if p n = true then 1 else 0)
theorem mb_c_le (p : Nat → Bool) (n : Nat) : mb_c p n ≤ n := by
  induction n with
  | zero => exact Nat.le_refl 0
  | succ n ih =>
    show mb_c p n + (if p n = true then 1 else 0) ≤ n + 1
    by_cases h : p n = true
    · rw [if_pos h]; omega
    · rw [if_neg h]; omega
theorem mb_c_some {p : Nat → Bool} {n : Nat} (h : mb_c p n < n) : ∃ j, j < n ∧ p j = false := by
  induction n with
  | zero => exact absurd h (Nat.not_lt_zero _)
  | succ n ih =>
    cases hp : p n
    · exact ⟨n, by omega, hp⟩
    · have h' : mb_c p n + (if p n = true then 1 else 0) < n + 1 := h
      rw [if_pos hp] at h'
      obtain ⟨j, hj, e⟩ := ih (by omega)
      exact ⟨j, by omega, e⟩
theorem mb_c_mono {p q : Nat → Bool} {n : Nat} (h : ∀ i, i < n → p i = true → q i = true) : mb_c p n ≤ mb_c q n := by
  induction n with
  | zero => exact Nat.le_refl 0
  | succ n ih =>
    have ih' := ih (fun i hi => h i (by omega))
    show mb_c p n + (if p n = true then 1 else 0) ≤ mb_c q n + (if q n = true then 1 else 0)
    by_cases hp : p n = true
    · rw [if_pos hp, if_pos (h n (by omega) hp)]
      omega
    · rw [if_neg hp]
      exact Nat.le_trans ih' (Nat.le_add_right _ _)
theorem mb_c_strict {p q : Nat → Bool} {n j : Nat} (hj : j < n) (h : ∀ i, i < n → p i = true → q i = true) (hp : p j = false) (hq : q j = true) : mb_c p n < mb_c q n := by
  induction n with
  | zero => exact absurd hj (Nat.not_lt_zero _)
  | succ n ih =>
    show mb_c p n + (if p n = true then 1 else 0) < mb_c q n + (if q n = true then 1 else 0)
    by_cases e : j = n
    · subst e
      have m := mb_c_mono (n := j) (fun i hi => h i (by omega))
      rw [if_pos hq, if_neg (by rw [hp]; decide)]
      omega
    · have ih' := ih (by omega) (fun i hi => h i (by omega))
      by_cases hp : p n = true
      · rw [if_pos hp, if_pos (h n (by omega) hp)]
        omega
      · rw [if_neg hp]
        exact Nat.lt_of_lt_of_le ih' (Nat.le_add_right _ _)
theorem mb_c_eq {p q : Nat → Bool} {n : Nat} (h : ∀ i, i < n → q i = p i) : mb_c q n = mb_c p n := by
  induction n with
  | zero => rfl
  | succ n ih =>
    show mb_c q n + (if q n = true then 1 else 0) = mb_c p n + (if p n = true then 1 else 0)
    rw [ih (fun i hi => h i (by omega)), h n (by omega)]
theorem mb_c_add {p q : Nat → Bool} {n j : Nat} (hj : j < n) (h : ∀ i, i < n → q i = (p i || decide (i = j))) (hp : p j = false) : mb_c q n = mb_c p n + 1 := by
  induction n with
  | zero => exact absurd hj (Nat.not_lt_zero _)
  | succ n ih =>
    show mb_c q n + (if q n = true then 1 else 0) = mb_c p n + (if p n = true then 1 else 0) + 1
    by_cases e : j = n
    · subst e
      have m : mb_c q j = mb_c p j := mb_c_eq (fun i hi => by rw [h i (by omega), decide_eq_false (show ¬ i = j by omega), Bool.or_false])
      have hq : q j = true := by rw [h j (by omega), decide_eq_true rfl, Bool.or_true]
      rw [m, if_pos hq, if_neg (by rw [hp]; decide)]
    · have ih' := ih (by omega) (fun i hi => h i (by omega))
      have hq : q n = p n := by rw [h n (by omega), decide_eq_false (show ¬ n = j by omega), Bool.or_false]
      rw [ih', hq]
      omega
theorem mb_c_ge {p : Nat → Bool} {n j : Nat} (hj : j < n) (hp : p j = true) : 1 ≤ mb_c p n := by
  induction n with
  | zero => exact absurd hj (Nat.not_lt_zero _)
  | succ n ih =>
    show 1 ≤ mb_c p n + (if p n = true then 1 else 0)
    by_cases e : j = n
    · subst e
      rw [if_pos hp]
      omega
    · exact Nat.le_trans (ih (by omega)) (Nat.le_add_right _ _)
/-- two masks, one within the other, that differ: there is a bit between them -/
theorem mb_diff {x y : Int32} (h : ∀ i, mb_t x i = true → mb_t y i = true) (hy : ∀ i, mb_t y i = true → i < 18) (ne : ¬ y = x) : ∃ j, j < 18 ∧ mb_t x j = false ∧ mb_t y j = true := by
  apply Classical.byContradiction
  intro hn
  apply ne
  apply mb_ext
  intro i _
  cases hx : mb_t x i
  · cases hq : mb_t y i
    · rfl
    · exact absurd ⟨i, hy i hq, hx, hq⟩ hn
  · exact h i hx
end
section
/-! ===== a walk that ends in ONE state, whatever is asked of it: mt_d F W ===== -/
def mt_d {ρ : Type} (F : ρ → Prop) (W : (ρ → Prop) → Prop) : Prop := ∃ r, F r ∧ ∀ post : ρ → Prop, post r → W post
section
variable {ρ ρ' : Type} {F G : ρ → Prop} {F' : ρ' → Prop} {A B : (ρ → Prop) → Prop} {c h : Prop}
theorem mt_br (a : c → mt_d F A) (b : ¬ c → mt_d F B) : mt_d F (fun post => (c → A post) ∧ (¬ c → B post)) := by
  by_cases hc : c
  · obtain ⟨r, hr, k⟩ := a hc
    exact ⟨r, hr, fun post hp => br_t hc (k post hp)⟩
  · obtain ⟨r, hr, k⟩ := b hc
    exact ⟨r, hr, fun post hp => br_f hc (k post hp)⟩
theorem mt_bt (hc : c) (a : mt_d F A) : mt_d F (fun post => (c → A post) ∧ (¬ c → B post)) := by
  obtain ⟨r, hr, k⟩ := a
  exact ⟨r, hr, fun post hp => br_t hc (k post hp)⟩
theorem mt_bf (hc : ¬ c) (b : mt_d F B) : mt_d F (fun post => (c → A post) ∧ (¬ c → B post)) := by
  obtain ⟨r, hr, k⟩ := b
  exact ⟨r, hr, fun post hp => br_f hc (k post hp)⟩
theorem mt_an (a : h) (k : mt_d F A) : mt_d F (fun post => h ∧ A post) := by
  obtain ⟨r, hr, k⟩ := k
  exact ⟨r, hr, fun post hp => ⟨a, k post hp⟩⟩
theorem mt_nm {α : Type} {e e' : α} {A : α → (ρ → Prop) → Prop} (he : e = e') (k : mt_d F (A e')) : mt_d F (fun post => ∀ x, x = e → A x post) := by
  obtain ⟨r, hr, k⟩ := k
  exact ⟨r, hr, fun post hp => nm_r he (k post hp)⟩
theorem mt_rt {r : ρ} (a : F r) : mt_d F (fun post => post r) := ⟨r, a, fun _ hp => hp⟩
theorem mt_cl {A : (ρ' → Prop) → Prop} {K : ρ' → (ρ → Prop) → Prop} (a : mt_d F' A) (k : ∀ r, F' r → mt_d F (K r)) : mt_d F (fun post => A (fun r => K r post)) := by
  obtain ⟨r, hr, a⟩ := a
  obtain ⟨s, hs, k⟩ := k r hr
  exact ⟨s, hs, fun post hp => a _ (k post hp)⟩
theorem mt_ex {A : Nat → (ρ → Prop) → Prop} (n : Nat) (k : mt_d F (A n)) : mt_d F (fun post => ∃ fu, A fu post) := by
  obtain ⟨r, hr, k⟩ := k
  exact ⟨r, hr, fun post hp => ⟨n, k post hp⟩⟩
theorem mt_wk (k : mt_d F A) (w : ∀ r, F r → G r) : mt_d G A := by
  obtain ⟨r, hr, k⟩ := k
  exact ⟨r, w r hr, k⟩
end
/-! ===== what the definitions keep, what the compiled form keeps ===== -/
def mt_D (a1 a2 a3 a4 a6 : Nat → Int32) : Prop :=
  (∀ f, f < 18 → ∃ k, k ≤ 8 ∧ a1 f = nI k ∧
    (2 ≤ k → k ≤ 6 → mb_t (a6 f) (a2 f).toNatClampNeg = true ∧ mb_t (a6 f) (a3 f).toNatClampNeg = true) ∧
    (k = 6 → mb_t (a6 f) (a4 f).toNatClampNeg = true) ∧
    (k = 8 → mb_t (a6 f) (a2 f).toNatClampNeg = true ∧ mb_t (a6 f) (a4 f).toNatClampNeg = true)) ∧
  (∀ f, f < 18 → vp_in (a2 f) 18) ∧ (∀ f, f < 18 → vp_in (a3 f) 18) ∧ (∀ f, f < 18 → vp_in (a4 f) 18) ∧
  (∃ rk : Nat → Nat, ∀ f, f < 18 → ∀ g, mb_t (a6 f) g = true → g < 18 ∧ rk g < rk f)
/-- the order: a7 holds o, what a flow needs stands ahead of it, all flows stand there -/
def mt_O (a6 a7 : Nat → Int32) (o : Nat → Nat) : Prop :=
  (∀ i, i < 18 → o i < 18 ∧ a7 i = nI (o i)) ∧
  (∀ i, i < 18 → ∀ g, mb_t (a6 (o i)) g = true → ∃ j, j < i ∧ o j = g) ∧
  (∀ f, f < 18 → ∃ i, i < 18 ∧ o i = f) ∧
  (∀ i, i < 18 → ∀ j, j < i → o j ≠ o i)
/-- constants and shared flows of the first n in order -/
def mt_Q (a1 a8 a10 : Nat → Int32) (o : Nat → Nat) (n : Nat) : Prop :=
  ∀ i, i < n → (a1 (o i) = 1 → ¬ a8 (o i) = 0) ∧ (a1 (o i) = 7 → a8 (o i) = 0 ∧ a10 (o i) = nI (o i)) ∧ (a10 (o i) = nI (o i) ∨ ∃ j, j < i ∧ a10 (o i) = nI (o j))
def mt_C (a1 a6 a7 a8 a10 : Nat → Int32) : Prop := ∃ o : Nat → Nat, mt_O a6 a7 o ∧ mt_Q a1 a8 a10 o 18
def mt_I (u : St1) : Prop := match u with
  | (_, a1, a2, a3, a4, _, a6, a7, a8, _, a10, _, _, _, _, _) => mt_D a1 a2 a3 a4 a6 ∧ mt_C a1 a6 a7 a8 a10
theorem mt_inlt {x : Int32} (h : vp_in x 18) : x.toNatClampNeg < 18 := by
  obtain ⟨j, hj, e⟩ := vp_in_of h (by omega)
  rw [e, nI_clamp (by omega)]
  exact hj
theorem mt_innI {x : Int32} (h : vp_in x 18) : x = nI x.toNatClampNeg := by
  obtain ⟨j, hj, e⟩ := vp_in_of h (by omega)
  rw [e, nI_clamp (by omega)]
theorem mt_i18 {f : Nat} (h : f < 18) : vp_in (nI f) 18 := vp_in_nI h (by omega)
theorem mt_cl18 {f : Nat} (h : f < 18) : (nI f).toNatClampNeg = f := nI_clamp (by omega)
theorem mt_ne18 {f g : Nat} (hf : f < 18) (hg : g < 18) (h : f ≠ g) : nI f ≠ nI g := fun e => h ((nI_eq (by omega) (by omega)).mp e)
end
section
section
variable {f0 : Int32} {a1 a2 a3 a4 a5 a6 a7 a8 a9 a10 a11 a12 a13 a14 a15 : Nat → Int32}
/-! ===== combine ===== -/
def mt_comb (k a b s : Int32) : Int32 :=
  if k < 2 then (if s = 0 then b else a) else if 5 < k then (if s = 0 then b else a) else if k = 2 then a + b else if k = 3 then a - b else if k = 4 then a * b else if b ≤ a then 0 else 1
theorem mt_combW {post : Int32 → Prop} {u : St2} {k a b s : Int32} (hp : post (mt_comb k a b s)) : wpX_combine post u k a b s := by
  unfold mt_comb at hp
  refine br_c (fun h => ?_) (fun h => ?_)
  · rw [if_pos h] at hp
    exact br_c (fun g => by rw [if_pos g] at hp; exact hp) (fun g => by rw [if_neg g] at hp; exact hp)
  · rw [if_neg h] at hp
    refine br_c (fun h => ?_) (fun h => ?_)
    · rw [if_pos h] at hp
      exact br_c (fun g => by rw [if_pos g] at hp; exact hp) (fun g => by rw [if_neg g] at hp; exact hp)
    · rw [if_neg h] at hp
      refine br_c (fun h => ?_) (fun h => ?_)
      · rw [if_pos h] at hp
        exact hp
      · rw [if_neg h] at hp
        refine br_c (fun h => ?_) (fun h => ?_)
        · rw [if_pos h] at hp
          exact hp
        · rw [if_neg h] at hp
          refine br_c (fun h => ?_) (fun h => ?_)
          · rw [if_pos h] at hp
            exact hp
          · rw [if_neg h] at hp
            exact br_c (fun _ => br_c (fun g => by rw [if_pos g] at hp; exact hp) (fun g => by rw [if_neg g] at hp; exact hp)) (fun _ => trivial)
theorem mt_combD {u : St2} {k a b s : Int32} : mt_d (fun _ => True) (fun post => wpX_combine post u k a b s) := ⟨mt_comb k a b s, trivial, fun _ hp => mt_combW hp⟩
/-! ===== fold ===== -/
theorem mt_nar0 : vp_nar .boolean 0 = 0 := by rfl
theorem mt_nar1 : vp_nar .boolean 1 = 1 := by rfl
theorem mt_f113 {x1 x2 : Int32} (hx : vp_in x1 18) (h2 : vp_in (a2 x1.toNatClampNeg) 18) (h3 : vp_in (a3 x1.toNatClampNeg) 18) (h4 : vp_in (a4 x1.toNatClampNeg) 18) :
    mt_d (fun u => ∃ b9, u = (f0, a1, a2, a3, a4, a5, a6, a7, a8, b9, a10, a11, a12, a13, a14, a15)) (fun post => wX_fold_113 post x1 x2 f0 a1 a2 a3 a4 a5 a6 a7 a8 a9 a10 a11 a12 a13 a14 a15) :=
  mt_an hx (mt_br (fun _ => mt_rt ⟨a9, rfl⟩) (fun _ => mt_an hx (mt_an h2 (mt_nm rfl (mt_an hx (mt_an h3 (mt_nm rfl (mt_an hx (mt_an h4 (mt_nm rfl
    (mt_br (fun _ => mt_an hx (mt_an hx (mt_nm rfl (mt_rt ⟨_, rfl⟩))))
      (fun _ => mt_cl (A := fun p => wpX_combine p () _ _ _ _) mt_combD (fun r _ => mt_an hx (mt_nm rfl (mt_rt ⟨_, rfl⟩)))))))))))))))
theorem mt_f112 {x1 x2 z0 : Int32} (hx : vp_in x1 18) (h2 : vp_in (a2 x1.toNatClampNeg) 18) (h3 : vp_in (a3 x1.toNatClampNeg) 18) (h4 : vp_in (a4 x1.toNatClampNeg) 18) :
    mt_d (fun u => ∃ b8 b9, u = (f0, a1, a2, a3, a4, a5, a6, a7, b8, b9, a10, a11, a12, a13, a14, a15) ∧ ∀ g, g ≠ x1.toNatClampNeg → b8 g = a8 g) (fun post => wX_fold_112 post x1 x2 z0 x1 f0 a1 a2 a3 a4 a5 a6 a7 a8 a9 a10 a11 a12 a13 a14 a15) :=
  mt_an hx (mt_nm rfl (mt_wk (mt_f113 hx h2 h3 h4) (fun u hu => Exists.elim hu (fun b9 e => ⟨_, b9, e, fun g hg => pk_un hg⟩))))
theorem mt_f72 {x1 x2 z0 : Int32} (hx : vp_in x1 18) (h2 : vp_in (a2 x1.toNatClampNeg) 18) (h3 : vp_in (a3 x1.toNatClampNeg) 18) (h4 : vp_in (a4 x1.toNatClampNeg) 18) :
    mt_d (fun u => ∃ b8 b9, u = (f0, a1, a2, a3, a4, a5, a6, a7, b8, b9, a10, a11, a12, a13, a14, a15) ∧ ∀ g, g ≠ x1.toNatClampNeg → b8 g = a8 g) (fun post => wX_fold_72 post x1 x2 z0 x1 f0 a1 a2 a3 a4 a5 a6 a7 a8 a9 a10 a11 a12 a13 a14 a15) := by
  have K : ∀ z, mt_d (fun u => ∃ b8 b9, u = (f0, a1, a2, a3, a4, a5, a6, a7, b8, b9, a10, a11, a12, a13, a14, a15) ∧ ∀ g, g ≠ x1.toNatClampNeg → b8 g = a8 g) (fun post => wX_fold_112 post x1 x2 z x1 f0 a1 a2 a3 a4 a5 a6 a7 (upd a8 x1.toNatClampNeg (vp_nar .boolean z0)) a9 a10 a11 a12 a13 a14 a15) := fun z =>
    mt_wk (mt_f112 hx h2 h3 h4) (fun u hu => by
      obtain ⟨b8, b9, e, h⟩ := hu
      exact ⟨b8, b9, e, fun g hg => (h g hg).trans (pk_un hg)⟩)
  exact mt_an hx (mt_nm rfl (mt_br
    (fun _ => mt_an hx (mt_br (fun _ => K 0) (fun _ => mt_an hx (mt_an h4 (mt_br (fun _ => K 0) (fun _ => K 1))))))
    (fun _ => mt_wk (mt_f113 hx h2 h3 h4) (fun u hu => Exists.elim hu (fun b9 e => ⟨_, b9, e, fun g hg => pk_un hg⟩)))))
theorem mt_f22 {x1 x2 z0 : Int32} (hx : vp_in x1 18) (h2 : vp_in (a2 x1.toNatClampNeg) 18) (h3 : vp_in (a3 x1.toNatClampNeg) 18) (h4 : vp_in (a4 x1.toNatClampNeg) 18) :
    mt_d (fun u => ∃ b8 b9, u = (f0, a1, a2, a3, a4, a5, a6, a7, b8, b9, a10, a11, a12, a13, a14, a15) ∧ (∀ g, g ≠ x1.toNatClampNeg → b8 g = a8 g) ∧ (x2 < 2 ∨ 6 < x2 → b8 x1.toNatClampNeg = vp_nar .boolean z0)) (fun post => wX_fold_22 post x1 x2 z0 x1 f0 a1 a2 a3 a4 a5 a6 a7 a8 a9 a10 a11 a12 a13 a14 a15) := by
  have K0 : mt_d (fun u => ∃ b8 b9, u = (f0, a1, a2, a3, a4, a5, a6, a7, b8, b9, a10, a11, a12, a13, a14, a15) ∧ (∀ g, g ≠ x1.toNatClampNeg → b8 g = a8 g) ∧ (x2 < 2 ∨ 6 < x2 → b8 x1.toNatClampNeg = vp_nar .boolean z0)) (fun post => wX_fold_113 post x1 x2 f0 a1 a2 a3 a4 a5 a6 a7 (upd a8 x1.toNatClampNeg (vp_nar .boolean z0)) a9 a10 a11 a12 a13 a14 a15) :=
    mt_wk (mt_f113 hx h2 h3 h4) (fun u hu => Exists.elim hu (fun b9 e => ⟨_, b9, e, fun g hg => pk_un hg, fun _ => pk_us⟩))
  refine mt_an hx (mt_nm rfl (mt_br (fun _ => K0) (fun n2 => mt_br (fun _ => K0) (fun n6 => ?_))))
  have K : ∀ z, mt_d (fun u => ∃ b8 b9, u = (f0, a1, a2, a3, a4, a5, a6, a7, b8, b9, a10, a11, a12, a13, a14, a15) ∧ (∀ g, g ≠ x1.toNatClampNeg → b8 g = a8 g) ∧ (x2 < 2 ∨ 6 < x2 → b8 x1.toNatClampNeg = vp_nar .boolean z0)) (fun post => wX_fold_72 post x1 x2 z x1 f0 a1 a2 a3 a4 a5 a6 a7 (upd a8 x1.toNatClampNeg (vp_nar .boolean z0)) a9 a10 a11 a12 a13 a14 a15) := fun z =>
    mt_wk (mt_f72 hx h2 h3 h4) (fun u hu => by
      obtain ⟨b8, b9, e, h⟩ := hu
      exact ⟨b8, b9, e, fun g hg => (h g hg).trans (pk_un hg), fun c => absurd c (fun c => c.elim n2 n6)⟩)
  exact mt_an hx (mt_an h2 (mt_br (fun _ => K 0) (fun _ => mt_an hx (mt_an h3 (mt_br (fun _ => K 0) (fun _ => K 1))))))
theorem mt_fold {f : Nat} (hf : f < 18) (h2 : vp_in (a2 f) 18) (h3 : vp_in (a3 f) 18) (h4 : vp_in (a4 f) 18) :
    mt_d (fun u => ∃ b8 b9, u = (f0, a1, a2, a3, a4, a5, a6, a7, b8, b9, a10, a11, a12, a13, a14, a15) ∧ (∀ g, g ≠ f → b8 g = a8 g) ∧ (a1 f = 1 → ¬ b8 f = 0) ∧ (a1 f = 7 → b8 f = 0)) (fun post => wpX_fold post (f0, a1, a2, a3, a4, a5, a6, a7, a8, a9, a10, a11, a12, a13, a14, a15) (nI f)) := by
  have e : (nI f).toNatClampNeg = f := mt_cl18 hf
  have H2 : vp_in (a2 (nI f).toNatClampNeg) 18 := by rw [e]; exact h2
  have H3 : vp_in (a3 (nI f).toNatClampNeg) 18 := by rw [e]; exact h3
  have H4 : vp_in (a4 (nI f).toNatClampNeg) 18 := by rw [e]; exact h4
  refine mt_an (mt_i18 hf) (mt_nm (e' := a1 f) (by rw [e]) (mt_br (fun h1 => mt_wk (mt_f22 (mt_i18 hf) H2 H3 H4) (fun u hu => ?_)) (fun h1 => mt_wk (mt_f22 (mt_i18 hf) H2 H3 H4) (fun u hu => ?_))))
  · obtain ⟨b8, b9, eu, k1, k2⟩ := hu
    rw [e] at k1 k2
    refine ⟨b8, b9, eu, k1, fun _ => ?_, fun h7 => absurd (h1.symm.trans h7) (by decide)⟩
    rw [k2 (Or.inl (by rw [h1]; decide)), mt_nar1]
    decide
  · obtain ⟨b8, b9, eu, k1, k2⟩ := hu
    rw [e] at k1 k2
    refine ⟨b8, b9, eu, k1, fun h => absurd h h1, fun h7 => ?_⟩
    rw [k2 (Or.inr (by rw [h7]; decide)), mt_nar0]
/-! ===== definedAlike, share ===== -/
theorem mt_da {p0 p1 : Int32} (h0 : vp_in p0 18) (h1 : vp_in p1 18) (A0 : vp_in (a2 p0.toNatClampNeg) 18) (A1 : vp_in (a2 p1.toNatClampNeg) 18) (B0 : vp_in (a3 p0.toNatClampNeg) 18) (B1 : vp_in (a3 p1.toNatClampNeg) 18) (C0 : vp_in (a4 p0.toNatClampNeg) 18) (C1 : vp_in (a4 p1.toNatClampNeg) 18) :
    mt_d (fun _ => True) (fun post => wpX_definedAlike post (f0, a1, a2, a3, a4, a5, a6, a7, a8, a9, a10, a11, a12, a13, a14, a15) p0 p1) :=
  mt_an h1 (mt_nm rfl (mt_an h0 (mt_br
    (fun _ => mt_an h0 (mt_br
      (fun _ => mt_br (fun _ => mt_an h0 (mt_an h1 (mt_br (fun _ => mt_rt trivial) (fun _ => mt_rt trivial))))
        (fun _ => mt_an h0 (mt_an A0 (mt_an h1 (mt_an A1 (mt_br
          (fun _ => mt_an h0 (mt_an B0 (mt_an h1 (mt_an B1 (mt_br
            (fun _ => mt_br (fun _ => mt_an h0 (mt_an C0 (mt_an h1 (mt_an C1 (mt_br (fun _ => mt_rt trivial) (fun _ => mt_rt trivial)))))) (fun _ => mt_rt trivial))
            (fun _ => mt_rt trivial))))))
          (fun _ => mt_rt trivial)))))))
      (fun _ => mt_rt trivial)))
    (fun _ => mt_rt trivial))))
theorem mt_m1 (x : Int32) : x + (-1) = x - 1 := by grind
theorem mt_s50 {x2 : Int32} {i : Nat} (hi : i < 18) (hx : vp_in x2 18) (hR : ∀ j, j < 18 → vp_in (a7 j) 18) (hA : ∀ f, f < 18 → vp_in (a2 f) 18) (hB : ∀ f, f < 18 → vp_in (a3 f) 18) (hC : ∀ f, f < 18 → vp_in (a4 f) 18) :
    ∀ m, m ≤ i → ∀ b10 : Nat → Int32, (∀ g, g ≠ x2.toNatClampNeg → b10 g = a10 g) → (b10 x2.toNatClampNeg = x2 ∨ ∃ j, j < i ∧ b10 x2.toNatClampNeg = a7 j) →
      mt_d (fun u => ∃ b, u = (f0, a1, a2, a3, a4, a5, a6, a7, a8, a9, b, a11, a12, a13, a14, a15) ∧ (∀ g, g ≠ x2.toNatClampNeg → b g = a10 g) ∧ (b x2.toNatClampNeg = x2 ∨ ∃ j, j < i ∧ b x2.toNatClampNeg = a7 j)) (fun post => wX_share_50 post x2 f0 (m + 1) (nI m - 1) a1 a2 a3 a4 a5 a6 a7 a8 a9 b10 a11 a12 a13 a14 a15) := by
  intro m
  induction m with
  | zero => exact fun _ b10 h1 h2 => mt_bt (by decide) (mt_rt ⟨b10, rfl, h1, h2⟩)
  | succ m ih =>
    intro hm b10 h1 h2
    rw [nI_pred]
    have e : (nI m).toNatClampNeg = m := mt_cl18 (by omega)
    have hp : vp_in (nI m) 18 := mt_i18 (by omega)
    have hq : vp_in (a7 (nI m).toNatClampNeg) 18 := by rw [e]; exact hR m (by omega)
    refine mt_bf (nI_pos (by omega)) (mt_an hp (mt_cl (A := fun p => wpX_definedAlike p _ _ _) (mt_da hq hx (hA _ (mt_inlt hq)) (hA _ (mt_inlt hx)) (hB _ (mt_inlt hq)) (hB _ (mt_inlt hx)) (hC _ (mt_inlt hq)) (hC _ (mt_inlt hx)))
      (fun r _ => mt_br (fun _ => mt_nm (mt_m1 _) (ih (by omega) b10 h1 h2)) (fun _ => mt_an hp (mt_an hx (mt_nm rfl (mt_nm (mt_m1 _) (ih (by omega) _ ?_ ?_))))))))
    · exact fun g hg => (pk_un hg).trans (h1 g hg)
    · exact Or.inr ⟨m, by omega, by rw [pk_us, e]⟩
theorem mt_sh {i : Nat} (hi : i < 18) (hR : ∀ j, j < 18 → vp_in (a7 j) 18) (hA : ∀ f, f < 18 → vp_in (a2 f) 18) (hB : ∀ f, f < 18 → vp_in (a3 f) 18) (hC : ∀ f, f < 18 → vp_in (a4 f) 18) :
    mt_d (fun u => ∃ b, u = (f0, a1, a2, a3, a4, a5, a6, a7, a8, a9, b, a11, a12, a13, a14, a15) ∧ (∀ g, g ≠ (a7 i).toNatClampNeg → b g = a10 g) ∧ (b (a7 i).toNatClampNeg = a7 i ∨ ∃ j, j < i ∧ b (a7 i).toNatClampNeg = a7 j) ∧ (a1 (a7 i).toNatClampNeg = 7 → b (a7 i).toNatClampNeg = a7 i)) (fun post => wpX_share post (f0, a1, a2, a3, a4, a5, a6, a7, a8, a9, a10, a11, a12, a13, a14, a15) (nI i)) := by
  have hx := hR i hi
  have e : (nI i).toNatClampNeg = i := mt_cl18 hi
  have R : mt_d (fun u => ∃ b, u = (f0, a1, a2, a3, a4, a5, a6, a7, a8, a9, b, a11, a12, a13, a14, a15) ∧ (∀ g, g ≠ (a7 i).toNatClampNeg → b g = a10 g) ∧ (b (a7 i).toNatClampNeg = a7 i ∨ ∃ j, j < i ∧ b (a7 i).toNatClampNeg = a7 j) ∧ (a1 (a7 i).toNatClampNeg = 7 → b (a7 i).toNatClampNeg = a7 i)) (fun post => post (f0, a1, a2, a3, a4, a5, a6, a7, a8, a9, upd a10 (a7 i).toNatClampNeg (a7 i), a11, a12, a13, a14, a15)) :=
    mt_rt ⟨_, rfl, fun g hg => pk_un hg, Or.inl pk_us, fun _ => pk_us⟩
  refine mt_an (mt_i18 hi) (mt_nm (e' := a7 i) (by rw [e]) (mt_an hx (mt_nm rfl (mt_an hx (mt_br (fun _ => R) (fun n7 => mt_an hx (mt_br (fun _ => R) (fun _ => mt_an hx (mt_br (fun _ => mt_nm rfl (mt_ex (i + 1) ?_)) (fun _ => R))))))))))
  exact mt_wk (mt_s50 hi hx hR hA hB hC i (Nat.le_refl i) _ (fun g hg => pk_un hg) (Or.inl pk_us)) (fun u hu => by
    obtain ⟨b, eu, k1, k2⟩ := hu
    exact ⟨b, eu, k1, k2, fun h7 => absurd h7 n7⟩)
/-! ===== compile: the second loop ===== -/
theorem mt_c54 {o : Nat → Nat} (hO : mt_O a6 a7 o) (hA : ∀ f, f < 18 → vp_in (a2 f) 18) (hB : ∀ f, f < 18 → vp_in (a3 f) 18) (hC : ∀ f, f < 18 → vp_in (a4 f) 18) :
    ∀ m i, i + m = 18 → ∀ b8 b9 b10 : Nat → Int32, mt_Q a1 b8 b10 o i →
      mt_d (fun u => ∃ b8 b9 b10, u = (f0, a1, a2, a3, a4, a5, a6, a7, b8, b9, b10, a11, a12, a13, a14, a15) ∧ mt_Q a1 b8 b10 o 18) (fun post => wX_compile_54 post (m + 1) (nI i) f0 a1 a2 a3 a4 a5 a6 a7 b8 b9 b10 a11 a12 a13 a14 a15) := by
  intro m
  induction m with
  | zero =>
    intro i hi b8 b9 b10 hQ
    have e : i = 18 := by omega
    subst e
    exact mt_bt (by decide) (mt_rt ⟨b8, b9, b10, rfl, hQ⟩)
  | succ m ih =>
    intro i hi b8 b9 b10 hQ
    obtain ⟨hO1, hO2, hO3, hO4⟩ := hO
    have hi' : i < 18 := by omega
    have hR : ∀ j, j < 18 → vp_in (a7 j) 18 := fun j hj => by rw [(hO1 j hj).2]; exact mt_i18 (hO1 j hj).1
    have e7 : a7 (nI i).toNatClampNeg = nI (o i) := by rw [mt_cl18 hi', (hO1 i hi').2]
    have hf := (hO1 i hi').1
    have ec : (a7 i).toNatClampNeg = o i := by rw [(hO1 i hi').2, mt_cl18 hf]
    refine mt_bf (nI_ge (b := 18) hi' (by decide)) (mt_an (mt_i18 hi') ?_)
    rw [e7]
    refine mt_cl (A := fun p => wpX_fold p _ _) (mt_fold hf (hA _ hf) (hB _ hf) (hC _ hf)) (fun u hu => ?_)
    obtain ⟨c8, c9, eu, k1, k2, k3⟩ := hu
    subst eu
    refine mt_cl (A := fun p => wpX_share p _ _) (mt_sh hi' hR hA hB hC) (fun u hu => ?_)
    obtain ⟨c10, eu, s1, s2, s3⟩ := hu
    subst eu
    rw [ec] at s1 s2 s3
    rw [(hO1 i hi').2] at s2 s3
    refine mt_nm (nI_1 i) (ih (i + 1) (by omega) c8 c9 c10 ?_)
    intro j hj
    by_cases ej : j = i
    · subst ej
      refine ⟨k2, fun h7 => ⟨k3 h7, s3 h7⟩, s2.elim Or.inl (fun hs => ?_)⟩
      obtain ⟨l, hl, el⟩ := hs
      exact Or.inr ⟨l, hl, by rw [el, (hO1 l (by omega)).2]⟩
    · have hj' : j < i := by omega
      have ne := hO4 i hi' j hj'
      rw [k1 _ ne, s1 _ ne]
      exact hQ j hj'
/-! ===== compile: the first loop ===== -/
def mt_rd (a6 : Nat → Int32) (x1 : Int32) (f : Nat) : Prop := f < 18 ∧ mb_t x1 f = false ∧ ∀ g, mb_t (a6 f) g = true → mb_t x1 g = true
theorem mt_rp1 {post : Int32 → Prop} {x1 : Int32} {j : Nat} (h : mt_rd a6 x1 j) (hp : post 1) : wpX_readyToPlace post (f0, a1, a2, a3, a4, a5, a6, a7, a8, a9, a10, a11, a12, a13, a14, a15) (nI j) x1 :=
  br_t ((mb_b0 x1 h.1).mpr h.2.1) ⟨mt_i18 h.1, br_t (mb_sub.mpr (by rw [mt_cl18 h.1]; exact h.2.2)) hp⟩
theorem mt_rp0 {post : Int32 → Prop} {x1 : Int32} {j : Nat} (hj : j < 18) (h : ¬ mt_rd a6 x1 j) (hp : post 0) : wpX_readyToPlace post (f0, a1, a2, a3, a4, a5, a6, a7, a8, a9, a10, a11, a12, a13, a14, a15) (nI j) x1 := by
  by_cases hb : mb_t x1 j = false
  · exact br_t ((mb_b0 x1 hj).mpr hb) ⟨mt_i18 hj, br_f (fun z => h ⟨hj, hb, by rw [mt_cl18 hj] at z; exact mb_sub.mp z⟩) hp⟩
  · exact br_f (fun z => hb ((mb_b0 x1 hj).mp z)) hp
theorem mt_c12 {post : St1 → Prop} {J : Int32 → Int32 → (Nat → Int32) → (Nat → Int32) → (Nat → Int32) → (Nat → Int32) → (Nat → Int32) → (Nat → Int32) → (Nat → Int32) → (Nat → Int32) → (Nat → Int32) → (Nat → Int32) → (Nat → Int32) → (Nat → Int32) → (Nat → Int32) → (Nat → Int32) → (Nat → Int32) → Prop}
    {x1 : Int32} {i f : Nat} (hi : i < 18) (hr : mt_rd a6 x1 f) (hl : ∀ j, j < f → ¬ mt_rd a6 x1 j) (H : J (x1 ||| ((1 : Int32) <<< (nI f &&& 31))) (nI (i + 1)) a1 a2 a3 a4 a5 a6 (upd a7 i (nI f)) a8 a9 a10 a11 a12 a13 a14 a15) :
    ∃ n, wX_compile_12 post J x1 (nI i) f0 a1 a2 a3 a4 a5 a6 a7 a8 a9 a10 a11 a12 a13 a14 a15 n 0 := by
  have hf := hr.1
  have H33 : wX_compile_33 post J x1 (nI i) (nI f) f0 a1 a2 a3 a4 a5 a6 a7 a8 a9 a10 a11 a12 a13 a14 a15 := And.intro (mt_i18 hi) (nm_r (e' := upd a7 i (nI f)) (by rw [mt_cl18 hi]) (nm_e (nm_r (nI_1 i) H)))
  exact pk_loop (σ := Unit) (fun n j _ => wX_compile_12 post J x1 (nI i) f0 a1 a2 a3 a4 a5 a6 a7 a8 a9 a10 a11 a12 a13 a14 a15 n (nI j)) (fun _ _ => True) f 0 () (by omega) trivial
    (fun n _ _ => pk_le 17 f (fun _ => H33) (fun z => mt_rp1 hr (br_f (by decide) H33)))
    (fun n j _ hj _ hw => pk_le 17 j (fun z => absurd z (by omega)) (fun z => mt_rp0 (by omega) (hl j hj) (br_t rfl (nm_r (nI_1 j) (hw () trivial)))))
theorem mt_rdy {x1 : Int32} {rk : Nat → Nat} (hN : ∀ f, f < 18 → ∀ g, mb_t (a6 f) g = true → g < 18 ∧ rk g < rk f) : ∀ n f, rk f < n → f < 18 → mb_t x1 f = false → ∃ r, mt_rd a6 x1 r := by
  intro n
  induction n with
  | zero => exact fun f h => absurd h (Nat.not_lt_zero _)
  | succ n ih =>
    intro f h hf hb
    by_cases hc : ∀ g, mb_t (a6 f) g = true → mb_t x1 g = true
    · exact ⟨f, hf, hb, hc⟩
    · obtain ⟨g, hg⟩ := Classical.not_forall.mp hc
      obtain ⟨g1, g2⟩ := Classical.not_imp.mp hg
      have k := hN f hf g g1
      exact ih g (by omega) k.1 (Bool.eq_false_iff.mpr g2)
theorem mt_cfull {p : Nat → Bool} {n : Nat} (h : mb_c p n = n) : ∀ j, j < n → p j = true := by
  intro j hj
  cases hp : p j
  · have l : mb_c p n < mb_c (fun _ => true) n := mb_c_strict hj (fun _ _ _ => rfl) hp rfl
    have m := mb_c_le (fun _ => true) n
    omega
  · rfl
/-- the first loop's invariant -/
def mt_P (a6 b7 : Nat → Int32) (x1 : Int32) (o : Nat → Nat) (i : Nat) : Prop :=
  (∀ j, j < i → o j < 18 ∧ b7 j = nI (o j) ∧ mb_t x1 (o j) = true) ∧
  (∀ g, mb_t x1 g = true → ∃ j, j < i ∧ o j = g) ∧
  (∀ j, j < i → ∀ g, mb_t (a6 (o j)) g = true → ∃ l, l < j ∧ o l = g) ∧
  (∀ j, j < i → ∀ l, l < j → o l ≠ o j) ∧ mb_c (mb_t x1) 18 = i
theorem mt_Pn {b7 : Nat → Int32} {x1 : Int32} {o : Nat → Nat} {i f : Nat} (h : mt_P a6 b7 x1 o i) (hr : mt_rd a6 x1 f) :
    mt_P a6 (upd b7 i (nI f)) (x1 ||| ((1 : Int32) <<< (nI f &&& 31))) (fun j => if j = i then f else o j) (i + 1) := by
  obtain ⟨h1, h2, h3, h4, h5⟩ := h
  obtain ⟨hf, hb, hs⟩ := hr
  have bit : ∀ g, mb_t (x1 ||| ((1 : Int32) <<< (nI f &&& 31))) g = (mb_t x1 g || decide (g = f)) := fun g => by rw [mb_or, mb_one (by omega)]
  have eo : ∀ j, j < i → (if j = i then f else o j) = o j := fun j hj => if_neg (by omega)
  refine ⟨fun j hj => ?_, fun g hg => ?_, fun j hj g hg => ?_, fun j hj l hl => ?_, ?_⟩
  · by_cases e : j = i
    · subst e
      dsimp only
      rw [if_pos rfl, bit f, decide_eq_true rfl, Bool.or_true, pk_us]
      exact ⟨hf, rfl, rfl⟩
    · have k := h1 j (by omega)
      dsimp only
      rw [eo j (by omega), bit, k.2.2, pk_un e]
      exact ⟨k.1, k.2.1, rfl⟩
  · rw [bit] at hg
    by_cases e : g = f
    · exact ⟨i, by omega, by dsimp only; rw [if_pos rfl, e]⟩
    · rw [decide_eq_false e, Bool.or_false] at hg
      obtain ⟨j, hj, ej⟩ := h2 g hg
      exact ⟨j, by omega, by dsimp only; rw [eo j hj, ej]⟩
  · dsimp only at hg
    by_cases e : j = i
    · subst e
      rw [if_pos rfl] at hg
      obtain ⟨l, hl, el⟩ := h2 g (hs g hg)
      exact ⟨l, hl, by dsimp only; rw [eo l hl, el]⟩
    · rw [if_neg e] at hg
      obtain ⟨l, hl, el⟩ := h3 j (by omega) g hg
      exact ⟨l, hl, by dsimp only; rw [eo l (by omega), el]⟩
  · dsimp only
    rw [eo l (by omega)]
    by_cases e : j = i
    · subst e
      rw [if_pos rfl]
      intro z
      have k := (h1 l hl).2.2
      rw [z, hb] at k
      exact absurd k (by decide)
    · rw [if_neg e]
      exact h4 j (by omega) l hl
  · rw [mb_c_add hf (fun g _ => bit g) hb, h5]
theorem mt_c4 {rk : Nat → Nat} (hN : ∀ f, f < 18 → ∀ g, mb_t (a6 f) g = true → g < 18 ∧ rk g < rk f) (hA : ∀ f, f < 18 → vp_in (a2 f) 18) (hB : ∀ f, f < 18 → vp_in (a3 f) 18) (hC : ∀ f, f < 18 → vp_in (a4 f) 18) :
    ∀ m i, i + m = 18 → ∀ (b7 : Nat → Int32) (x1 : Int32) (o : Nat → Nat), mt_P a6 b7 x1 o i →
      mt_d (fun u => ∃ b7 b8 b9 b10, u = (f0, a1, a2, a3, a4, a5, a6, b7, b8, b9, b10, a11, a12, a13, a14, a15) ∧ mt_C a1 a6 b7 b8 b10) (fun post => wX_compile_4 post f0 (m + 1) x1 (nI i) a1 a2 a3 a4 a5 a6 b7 a8 a9 a10 a11 a12 a13 a14 a15) := by
  intro m
  induction m with
  | zero =>
    intro i hi b7 x1 o hP
    have e : i = 18 := by omega
    subst e
    obtain ⟨h1, h2, h3, h4, h5⟩ := hP
    have hO : mt_O a6 b7 o := ⟨fun i hi => ⟨(h1 i hi).1, (h1 i hi).2.1⟩, h3, fun f hf => h2 f (mt_cfull h5 f hf), h4⟩
    refine mt_bt (by decide) (mt_ex 19 (mt_wk (mt_c54 hO hA hB hC 18 0 (by omega) a8 a9 a10 (fun j hj => absurd hj (Nat.not_lt_zero _))) (fun u hu => ?_)))
    obtain ⟨b8, b9, b10, eu, hQ⟩ := hu
    exact ⟨b7, b8, b9, b10, eu, o, hO, hQ⟩
  | succ m ih =>
    intro i hi b7 x1 o hP
    have hi' : i < 18 := by omega
    obtain ⟨g, hg, eg⟩ := mb_c_some (p := mb_t x1) (n := 18) (by have := hP.2.2.2.2; omega)
    obtain ⟨f, hf, hl⟩ := pk_least (mt_rd a6 x1) (mt_rdy hN (rk g + 1) g (by omega) hg eg)
    obtain ⟨r, hr, k⟩ := ih (i + 1) (by omega) _ _ _ (mt_Pn hP hf)
    exact mt_bf (nI_ge (b := 18) hi' (by decide)) ⟨r, hr, fun post hp => mt_c12 hi' hf hl (k post hp)⟩
theorem mt_comp (hD : mt_D a1 a2 a3 a4 a6) :
    mt_d (fun u => ∃ b7 b8 b9 b10, u = (f0, a1, a2, a3, a4, a5, a6, b7, b8, b9, b10, a11, a12, a13, a14, a15) ∧ mt_C a1 a6 b7 b8 b10) (fun post => wpX_compile post (f0, a1, a2, a3, a4, a5, a6, a7, a8, a9, a10, a11, a12, a13, a14, a15)) := by
  obtain ⟨_, hA, hB, hC, rk, hN⟩ := hD
  refine mt_ex 19 (mt_c4 hN hA hB hC 18 0 (by omega) a7 0 (fun _ => 0) ?_)
  refine ⟨fun j hj => absurd hj (Nat.not_lt_zero _), fun g hg => ?_, fun j hj => absurd hj (Nat.not_lt_zero _), fun j hj => absurd hj (Nat.not_lt_zero _), by decide +kernel⟩
  rw [mb_0] at hg
  exact absurd hg (by decide)
end
end
section
section
variable {f0 : Int32} {a1 a2 a3 a4 a5 a6 a7 a8 a9 a10 a11 a12 a13 a14 a15 : Nat → Int32}
/-! ===== closure ===== -/
def mt_cs (a6 : Nat → Int32) (b : Int32) : Nat → Int32
  | 0 => b
  | n + 1 => if mb_t b n = true then mt_cs a6 b n ||| a6 n else mt_cs a6 b n
theorem mt_csb (b : Int32) (n g : Nat) : mb_t (mt_cs a6 b n) g = true ↔ mb_t b g = true ∨ ∃ f, f < n ∧ mb_t b f = true ∧ mb_t (a6 f) g = true := by
  induction n with
  | zero => exact ⟨Or.inl, fun h => h.elim id (fun ⟨f, hf, _⟩ => absurd hf (Nat.not_lt_zero _))⟩
  | succ n ih =>
    show mb_t (if mb_t b n = true then mt_cs a6 b n ||| a6 n else mt_cs a6 b n) g = true ↔ _
    by_cases hb : mb_t b n = true
    · rw [if_pos hb, mb_or, Bool.or_eq_true, ih]
      constructor
      · intro h
        rcases h with (h | ⟨f, hf, h1, h2⟩) | h
        · exact Or.inl h
        · exact Or.inr ⟨f, by omega, h1, h2⟩
        · exact Or.inr ⟨n, by omega, hb, h⟩
      · intro h
        rcases h with h | ⟨f, hf, h1, h2⟩
        · exact Or.inl (Or.inl h)
        · by_cases e : f = n
          · subst e
            exact Or.inr h2
          · exact Or.inl (Or.inr ⟨f, by omega, h1, h2⟩)
    · rw [if_neg hb, ih]
      constructor
      · intro h
        rcases h with h | ⟨f, hf, h1, h2⟩
        · exact Or.inl h
        · exact Or.inr ⟨f, by omega, h1, h2⟩
      · intro h
        rcases h with h | ⟨f, hf, h1, h2⟩
        · exact Or.inl h
        · by_cases e : f = n
          · subst e
            exact absurd h1 hb
          · exact Or.inr ⟨f, by omega, h1, h2⟩
theorem mt_c24 {post : Int32 → Prop} {J : Int32 → Int32 → Int32 → Prop} {b : Int32} {i : Nat} (H : J (mt_cs a6 b 18) b (nI (i + 1))) : ∃ n, wX_closure_24 post J b (nI i) f0 a1 a2 a3 a4 a5 a6 a7 a8 a9 a10 a11 a12 a13 a14 a15 n b 0 := by
  refine pk_loop (σ := Unit) (fun n j _ => wX_closure_24 post J b (nI i) f0 a1 a2 a3 a4 a5 a6 a7 a8 a9 a10 a11 a12 a13 a14 a15 n (mt_cs a6 b j) (nI j)) (fun _ _ => True) 18 0 () (by omega) trivial
    (fun n _ _ => pk_le 18 18 (fun _ => nm_r (nI_1 i) H) (fun z => absurd z (by omega)))
    (fun n j _ hj _ hw => pk_le 18 j (fun z => absurd z (by omega)) (fun z => ?_))
  by_cases hb : mb_t b j = true
  · exact br_t ((mb_b1 b hj).mpr hb) ⟨mt_i18 hj, nm_r (e' := mt_cs a6 b (j + 1)) (by show _ = if mb_t b j = true then mt_cs a6 b j ||| a6 j else mt_cs a6 b j; rw [if_pos hb, mt_cl18 hj]) (nm_r (nI_1 j) (hw () trivial))⟩
  · have e : mt_cs a6 b (j + 1) = mt_cs a6 b j := by
      show (if mb_t b j = true then mt_cs a6 b j ||| a6 j else mt_cs a6 b j) = _
      rw [if_neg hb]
    have w := hw () trivial
    rw [e] at w
    exact br_f (fun z => hb ((mb_b1 b hj).mp z)) (nm_r (nI_1 j) w)
def mt_clo (a6 : Nat → Int32) (set all : Int32) : Prop :=
  (∀ g, mb_t set g = true → mb_t all g = true) ∧ (∀ g, mb_t all g = true → g < 18) ∧
  (∀ g, mb_t all g = true → ∀ h, mb_t (a6 g) h = true → mb_t all h = true) ∧
  (∀ P : Nat → Prop, (∀ g, mb_t set g = true → P g) → (∀ g h, g < 18 → P g → mb_t (a6 g) h = true → P h) → ∀ g, mb_t all g = true → P g)
theorem mt_c7 (hN : ∀ f, f < 18 → ∀ g, mb_t (a6 f) g = true → g < 18) {set : Int32} :
    ∀ m i (all before : Int32), i + m = 18 → (∀ g, mb_t set g = true → mb_t all g = true) → (∀ g, mb_t all g = true → g < 18) →
      (all = before → ∀ g, mb_t all g = true → ∀ h, mb_t (a6 g) h = true → mb_t all h = true) → (¬ all = before → i + 1 ≤ mb_c (mb_t all) 18) →
      (∀ P : Nat → Prop, (∀ g, mb_t set g = true → P g) → (∀ g h, g < 18 → P g → mb_t (a6 g) h = true → P h) → ∀ g, mb_t all g = true → P g) →
      mt_d (mt_clo a6 set) (fun post => wX_closure_7 post f0 a1 a2 a3 a4 a5 a6 a7 a8 a9 a10 a11 a12 a13 a14 a15 (m + 1) all before (nI i)) := by
  intro m
  induction m with
  | zero =>
    intro i all before hi h1 h2 h3 h4 h5
    have e : i = 18 := by omega
    subst e
    refine mt_bt (by decide) (mt_rt ⟨h1, h2, h3 ?_, h5⟩)
    apply Classical.byContradiction
    intro ne
    have a := h4 ne
    have b := mb_c_le (mb_t all) 18
    omega
  | succ m ih =>
    intro i all before hi h1 h2 h3 h4 h5
    have hi' : i < 18 := by omega
    refine mt_bf (nI_ge (b := 18) hi' (by decide)) (mt_br (fun e => mt_rt ⟨h1, h2, h3 e, h5⟩) (fun ne => ?_))
    have up : ∀ g, mb_t all g = true → mb_t (mt_cs a6 all 18) g = true := fun g hg => (mt_csb all 18 g).mpr (Or.inl hg)
    have lo : ∀ g, mb_t (mt_cs a6 all 18) g = true → g < 18 := fun g hg => by
      rcases (mt_csb all 18 g).mp hg with h | ⟨f, hf, _, h⟩
      · exact h2 g h
      · exact hN f hf g h
    obtain ⟨r, hr, k⟩ := ih (i + 1) (mt_cs a6 all 18) all (by omega) (fun g hg => up g (h1 g hg)) lo
      (fun e g hg h hh => by
        rw [e] at hg
        exact (mt_csb all 18 h).mpr (Or.inr ⟨g, h2 g hg, hg, hh⟩))
      (fun nq => by
        obtain ⟨j, hj, j1, j2⟩ := mb_diff up lo nq
        have s := mb_c_strict hj (fun g _ => up g) j1 j2
        have := h4 ne
        omega)
      (fun P p1 p2 g hg => by
        rcases (mt_csb all 18 g).mp hg with h | ⟨f, hf, hb, h⟩
        · exact h5 P p1 p2 g h
        · exact p2 f g hf (h5 P p1 p2 f hb) h)
    exact ⟨r, hr, fun post hp => mt_c24 (k post hp)⟩
theorem mt_clos (hN : ∀ f, f < 18 → ∀ g, mb_t (a6 f) g = true → g < 18) {set : Int32} (hs : ∀ g, mb_t set g = true → g < 18) :
    mt_d (mt_clo a6 set) (fun post => wpX_closure post (f0, a1, a2, a3, a4, a5, a6, a7, a8, a9, a10, a11, a12, a13, a14, a15) set) := by
  refine mt_ex 19 (mt_c7 hN 18 0 set 0 (by omega) (fun g h => h) hs (fun e g hg => ?_) (fun ne => ?_) (fun P p1 _ => p1))
  · rw [e, mb_0] at hg
    exact absurd hg (by decide)
  · obtain ⟨j, hj, _, j2⟩ := mb_diff (x := 0) (y := set) (fun g hg => by rw [mb_0] at hg; exact absurd hg (by decide)) hs ne
    have := mb_c_ge (p := mb_t set) hj j2
    omega
/-! ===== the small ones ===== -/
theorem mt_off {post : Int32 → Prop} {u : St2} {f : Nat} (hf : f < 18) (hp : post 0) : wpX_off post u (nI f) :=
  br_f (nI_pos (by omega)) (br_t (nI_lt (b := 18) hf (by decide)) hp)
theorem mt_offD {u : St2} {f : Nat} (hf : f < 18) : mt_d (fun r => r = 0) (fun post => wpX_off post u (nI f)) := ⟨0, rfl, fun _ hp => mt_off hf hp⟩
theorem mt_nA {u : St2} {k : Nat} (hk : k ≤ 8) : mt_d (fun r => (r = 0 ∧ k < 2) ∨ (r = 1 ∧ 2 ≤ k)) (fun post => wpX_namesA post u (nI k)) := by
  by_cases h : k < 2
  · exact mt_bt (nI_lt (b := 2) h (by decide)) (mt_rt (Or.inl ⟨rfl, h⟩))
  · exact mt_bf (nI_nlt (b := 2) (by omega) (by omega)) (mt_rt (Or.inr ⟨rfl, by omega⟩))
theorem mt_nB {u : St2} {k : Nat} (hk : k ≤ 8) : mt_d (fun r => (r = 0 ∧ ¬ (2 ≤ k ∧ k ≤ 6)) ∨ (r = 1 ∧ 2 ≤ k ∧ k ≤ 6)) (fun post => wpX_namesB post u (nI k)) := by
  by_cases h : k < 2
  · exact mt_bt (nI_lt (b := 2) h (by decide)) (mt_rt (Or.inl ⟨rfl, by omega⟩))
  · refine mt_bf (nI_nlt (b := 2) (by omega) (by omega)) ?_
    by_cases g : 6 < k
    · exact mt_bt (nI_lt (a := 6) g (by omega)) (mt_rt (Or.inl ⟨rfl, by omega⟩))
    · exact mt_bf (nI_nlt (a := 6) (by omega) (by omega)) (mt_rt (Or.inr ⟨rfl, by omega, by omega⟩))
theorem mt_nS {u : St2} {k : Nat} (hk : k ≤ 8) : mt_d (fun r => (r = 0 ∧ ¬ k = 6 ∧ ¬ k = 8) ∨ (r = 1 ∧ (k = 6 ∨ k = 8))) (fun post => wpX_namesS post u (nI k)) := by
  by_cases h : k = 6
  · exact mt_bt (by rw [h]; rfl) (mt_rt (Or.inr ⟨rfl, Or.inl h⟩))
  · refine mt_bf (fun z => h ((nI_eq (b := 6) (by omega) (by omega)).mp z)) ?_
    by_cases g : k = 8
    · exact mt_bt (by rw [g]; rfl) (mt_rt (Or.inr ⟨rfl, Or.inr g⟩))
    · exact mt_bf (fun z => g ((nI_eq (b := 8) (by omega) (by omega)).mp z)) (mt_rt (Or.inl ⟨rfl, h, g⟩))
theorem mt_b32 {k x4 : Nat} (hk : k ≤ 8) (h4 : x4 < 18) : mt_d (fun r => r = 0) (fun post => wX_badOperands_32 post (nI k) (nI x4) f0 a1 a2 a3 a4 a5 a6 a7 a8 a9 a10 a11 a12 a13 a14 a15) :=
  mt_cl (A := fun p => wpX_namesS p _ _) (mt_nS hk) (fun r _ => mt_br (fun _ => mt_rt rfl) (fun _ => mt_cl (A := fun p => wpX_off p _ _) (mt_offD h4) (fun r hr => mt_bt hr (mt_rt rfl))))
theorem mt_b16 {k x3 x4 : Nat} (hk : k ≤ 8) (h3 : x3 < 18) (h4 : x4 < 18) : mt_d (fun r => r = 0) (fun post => wX_badOperands_16 post (nI k) (nI x3) (nI x4) f0 a1 a2 a3 a4 a5 a6 a7 a8 a9 a10 a11 a12 a13 a14 a15) :=
  mt_cl (A := fun p => wpX_namesB p _ _) (mt_nB hk) (fun r _ => mt_br (fun _ => mt_b32 hk h4) (fun _ => mt_cl (A := fun p => wpX_off p _ _) (mt_offD h3) (fun r hr => mt_bt hr (mt_b32 hk h4))))
theorem mt_bad {k x2 x3 x4 : Nat} (hk : k ≤ 8) (h2 : x2 < 18) (h3 : x3 < 18) (h4 : x4 < 18) : mt_d (fun r => r = 0) (fun post => wpX_badOperands post (f0, a1, a2, a3, a4, a5, a6, a7, a8, a9, a10, a11, a12, a13, a14, a15) (nI k) (nI x2) (nI x3) (nI x4)) := by
  unfold wpX_badOperands
  exact mt_cl (A := fun p => wpX_namesA p _ _) (mt_nA hk) (fun r _ => mt_br (fun _ => mt_b16 hk h3 h4) (fun _ => mt_cl (A := fun p => wpX_off p _ _) (mt_offD h2) (fun r hr => mt_bt hr (mt_b16 hk h3 h4))))
/-- what the set of operands holds -/
def mt_os (k a b s : Nat) (set : Int32) : Prop :=
  (∀ g, mb_t set g = true → g < 18) ∧ (k = 7 → ∀ g, mb_t set g = false) ∧
  (2 ≤ k → k ≤ 6 → mb_t set a = true ∧ mb_t set b = true) ∧ (k = 6 → mb_t set s = true) ∧ (k = 8 → mb_t set a = true ∧ mb_t set s = true)
theorem mt_orb {x : Int32} {f : Nat} (hf : f < 18) (g : Nat) : mb_t (x ||| ((1 : Int32) <<< (nI f &&& 31))) g = (mb_t x g || decide (g = f)) := by rw [mb_or, mb_one (by omega)]
theorem mt_orS {x : Int32} {f : Nat} (hf : f < 18) : mb_t (x ||| ((1 : Int32) <<< (nI f &&& 31))) f = true := by rw [mt_orb hf, decide_eq_true rfl, Bool.or_true]
theorem mt_orK {x : Int32} {f g : Nat} (hf : f < 18) (h : mb_t x g = true) : mb_t (x ||| ((1 : Int32) <<< (nI f &&& 31))) g = true := by rw [mt_orb hf, h, Bool.true_or]
theorem mt_orL {x : Int32} {f : Nat} (hf : f < 18) (h : ∀ g, mb_t x g = true → g < 18) : ∀ g, mb_t (x ||| ((1 : Int32) <<< (nI f &&& 31))) g = true → g < 18 := by
  intro g hg
  by_cases e : g = f
  · omega
  · rw [mt_orb hf, decide_eq_false e, Bool.or_false] at hg
    exact h g hg
theorem mt_o41 {k a b s : Nat} {x4 : Int32} (hk : k ≤ 8) (h7 : ¬ k = 7) (hs : s < 18) (l : ∀ g, mb_t x4 g = true → g < 18) (ha : 2 ≤ k → mb_t x4 a = true) (hb : 2 ≤ k → k ≤ 6 → mb_t x4 b = true) :
    mt_d (mt_os k a b s) (fun post => wX_operandSet_41 post (nI k) (nI s) x4) := by
  refine mt_cl (A := fun p => wpX_namesS p _ _) (mt_nS hk) (fun r hr => ?_)
  rcases hr with ⟨rfl, n6, n8⟩ | ⟨rfl, hh⟩
  · exact mt_bt rfl (mt_rt ⟨l, fun e => absurd e h7, fun h2 h6 => ⟨ha h2, hb h2 h6⟩, fun e => absurd e n6, fun e => absurd e n8⟩)
  · exact mt_bf (by decide) (mt_nm rfl (mt_rt ⟨mt_orL hs l, fun e => absurd e h7, fun h2 h6 => ⟨mt_orK hs (ha h2), mt_orK hs (hb h2 h6)⟩, fun _ => mt_orS hs, fun e => ⟨mt_orK hs (ha (by omega)), mt_orS hs⟩⟩))
theorem mt_o26 {k a b s : Nat} {x4 : Int32} (hk : k ≤ 8) (h7 : ¬ k = 7) (hb : b < 18) (hs : s < 18) (l : ∀ g, mb_t x4 g = true → g < 18) (ha : 2 ≤ k → mb_t x4 a = true) :
    mt_d (mt_os k a b s) (fun post => wX_operandSet_26 post (nI k) (nI b) (nI s) x4) := by
  refine mt_cl (A := fun p => wpX_namesB p _ _) (mt_nB hk) (fun r hr => ?_)
  rcases hr with ⟨rfl, n⟩ | ⟨rfl, h2, h6⟩
  · exact mt_bt rfl (mt_o41 hk h7 hs l ha (fun h2 h6 => absurd ⟨h2, h6⟩ n))
  · exact mt_bf (by decide) (mt_nm rfl (mt_o41 hk h7 hs (mt_orL hb l) (fun h2 => mt_orK hb (ha h2)) (fun _ _ => mt_orS hb)))
theorem mt_l0 : ∀ g, mb_t 0 g = true → g < 18 := fun g hg => absurd ((mb_0 g).symm.trans hg) (by decide)
theorem mt_ops {u : St2} {k a b s : Nat} (hk : k ≤ 8) (ha : a < 18) (hb : b < 18) (hs : s < 18) : mt_d (mt_os k a b s) (fun post => wpX_operandSet post u (nI k) (nI a) (nI b) (nI s)) := by
  by_cases h7 : k = 7
  · subst h7
    exact mt_bt rfl (mt_rt ⟨mt_l0, fun _ g => mb_0 g, fun _ h => absurd h (by omega), fun h => absurd h (by omega), fun h => absurd h (by omega)⟩)
  · refine mt_bf (fun z => h7 ((nI_eq (b := 7) (by omega) (by omega)).mp z)) (mt_cl (A := fun p => wpX_namesA p _ _) (mt_nA hk) (fun r hr => ?_))
    rcases hr with ⟨rfl, n⟩ | ⟨rfl, h2⟩
    · exact mt_bt rfl (mt_o26 hk h7 hb hs mt_l0 (fun h => absurd h (by omega)))
    · exact mt_bf (by decide) (mt_nm rfl (mt_o26 hk h7 hb hs (mt_orL ha mt_l0) (fun _ => mt_orS ha)))
theorem mt_bits4 {x0 : Int32} : ∀ m i, i + m = 18 → ∀ x1, mt_d (fun _ => True) (fun post => wX_bits_4 post x0 (m + 1) x1 (nI i)) := by
  intro m
  induction m with
  | zero =>
    intro i hi x1
    have e : i = 18 := by omega
    subst e
    exact mt_bt (by decide) (mt_rt trivial)
  | succ m ih =>
    intro i hi x1
    exact mt_bf (nI_ge (b := 18) (by omega) (by decide)) (mt_nm rfl (mt_nm (nI_1 i) (ih (i + 1) (by omega) _)))
theorem mt_bits {u : St2} {x : Int32} : mt_d (fun _ => True) (fun post => wpX_bits post u x) := mt_ex 19 (mt_bits4 18 0 (by omega) 0)
/-- needs(f, f) is false -/
theorem mt_needs {post : Int32 → Prop} {f : Nat} (hD : mt_D a1 a2 a3 a4 a6) (hf : f < 18) (hp : post 0) : wpX_needs post (f0, a1, a2, a3, a4, a5, a6, a7, a8, a9, a10, a11, a12, a13, a14, a15) (nI f) (nI f) := by
  obtain ⟨_, _, _, _, rk, hN⟩ := hD
  have e : (nI f).toNatClampNeg = f := mt_cl18 hf
  have hs : ∀ g, mb_t (a6 (nI f).toNatClampNeg) g = true → g < 18 := fun g hg => by rw [e] at hg; exact (hN f hf g hg).1
  obtain ⟨all, hc, k⟩ := mt_clos (f0 := f0) (a1 := a1) (a2 := a2) (a3 := a3) (a4 := a4) (a5 := a5) (a7 := a7) (a8 := a8) (a9 := a9) (a10 := a10) (a11 := a11) (a12 := a12) (a13 := a13) (a14 := a14) (a15 := a15) (fun g hg h hh => (hN g hg h hh).1) hs
  unfold wpX_needs
  dsimp only
  refine mt_off hf (br_t rfl (mt_off hf (br_t rfl ⟨mt_i18 hf, k _ (br_f (fun z => ?_) hp)⟩)))
  have hz := (mb_b1 all hf).mp z
  have := hc.2.2.2 (fun g => g < 18 → rk g < rk f) (fun g hg _ => by rw [e] at hg; exact (hN f hf g hg).2) (fun g h hg pg hh _ => Nat.lt_trans (hN g hg h hh).2 (pg hg)) f hz hf
  omega
end
end
section
section
variable {f0 : Int32} {a1 a2 a3 a4 a5 a6 a7 a8 a9 a10 a11 a12 a13 a14 a15 : Nat → Int32}
/-! ===== a definition taken in keeps what definitions keep ===== -/
theorem mt_bound (rk : Nat → Nat) (n : Nat) : ∃ M, ∀ g, g < n → rk g < M := by
  induction n with
  | zero => exact ⟨0, fun g hg => absurd hg (Nat.not_lt_zero _)⟩
  | succ n ih =>
    obtain ⟨M, h⟩ := ih
    refine ⟨M + rk n + 1, fun g hg => ?_⟩
    by_cases e : g = n
    · subst e
      omega
    · have := h g (by omega)
      omega
theorem mt_Dnew {f k a b s : Nat} {set all : Int32} (hD : mt_D a1 a2 a3 a4 a6) (hf : f < 18) (hk : k ≤ 8) (ha : a < 18) (hb : b < 18) (hs : s < 18) (hc : mt_clo a6 set all) (hn : ¬ mb_t all f = true)
    (h1 : 2 ≤ k → k ≤ 6 → mb_t set a = true ∧ mb_t set b = true) (h2 : k = 6 → mb_t set s = true) (h3 : k = 8 → mb_t set a = true ∧ mb_t set s = true) :
    mt_D (upd a1 f (nI k)) (upd a2 f (nI a)) (upd a3 f (nI b)) (upd a4 f (nI s)) (upd a6 f set) := by
  obtain ⟨hK, hA, hB, hC, rk, hN⟩ := hD
  obtain ⟨c1, c2, c3, c4⟩ := hc
  refine ⟨fun g hg => ?_, fun g hg => ?_, fun g hg => ?_, fun g hg => ?_, ?_⟩
  · by_cases e : g = f
    · subst e
      simp only [pk_us, mt_cl18 ha, mt_cl18 hb, mt_cl18 hs]
      exact ⟨k, hk, rfl, h1, h2, h3⟩
    · simp only [pk_un e]
      exact hK g hg
  · by_cases e : g = f
    · subst e
      rw [pk_us]
      exact mt_i18 ha
    · rw [pk_un e]
      exact hA g hg
  · by_cases e : g = f
    · subst e
      rw [pk_us]
      exact mt_i18 hb
    · rw [pk_un e]
      exact hB g hg
  · by_cases e : g = f
    · subst e
      rw [pk_us]
      exact mt_i18 hs
    · rw [pk_un e]
      exact hC g hg
  · obtain ⟨M, hM⟩ := mt_bound rk 18
    refine ⟨fun g => if mb_t all g = true then rk g else rk g + M, fun g hg h hh => ?_⟩
    dsimp only
    by_cases e : g = f
    · subst e
      rw [pk_us] at hh
      have ch := c1 h hh
      have lh := c2 h ch
      have := hM h lh
      rw [if_pos ch, if_neg hn]
      exact ⟨lh, by omega⟩
    · rw [pk_un e] at hh
      have k := hN g hg h hh
      refine ⟨k.1, ?_⟩
      by_cases cg : mb_t all g = true
      · rw [if_pos cg, if_pos (c3 g cg h hh)]
        exact k.2
      · rw [if_neg cg]
        by_cases ch : mb_t all h = true
        · rw [if_pos ch]
          omega
        · rw [if_neg ch]
          omega
/-! ===== define ===== -/
theorem mt_d161 {f : Nat} {x4 x9 x10 z0 : Int32} (hf : f < 18) (hD : mt_D a1 a2 a3 (upd a4 f z0) (upd a6 f x9)) :
    mt_d (fun p : Int32 × St1 => ∃ b7 b8 b9 b10, p.2 = (f0, a1, a2, a3, upd a4 f z0, upd a5 f x4, upd a6 f x9, b7, b8, b9, b10, a11, a12, upd a13 f 1, a14, a15) ∧ mt_C a1 (upd a6 f x9) b7 b8 b10)
      (fun q => wX_define_161 (fun r u => q (r, u)) (nI f) x4 x9 x10 z0 (nI f) f0 a1 a2 a3 a4 a5 a6 a7 a8 a9 a10 a11 a12 a13 a14 a15) := by
  have e := mt_cl18 hf
  have i := mt_i18 hf
  refine mt_an i (mt_nm (e' := upd a4 f z0) (by rw [e]) (mt_an i (mt_nm (e' := upd a5 f x4) (by rw [e]) (mt_an i (mt_nm (e' := upd a6 f x9) (by rw [e]) (mt_an i (mt_nm (e' := upd a13 f 1) (by rw [e]) (mt_cl (A := fun p => wpX_compile p _) (mt_comp hD) (fun u hu => ?_)))))))))
  obtain ⟨b7, b8, b9, b10, eu, hC⟩ := hu
  subst eu
  exact mt_cl (A := fun p => wpX_bits p _ _) mt_bits (fun r _ => mt_rt ⟨b7, b8, b9, b10, rfl, hC⟩)
theorem mt_d142 {f k s : Nat} {x4 x9 x10 z0 : Int32} (hf : f < 18) (hk : k ≤ 8) (hs : s < 18) (hD : ∀ zs, zs < 18 → (k = 6 ∨ k = 8 → zs = s) → mt_D a1 a2 (upd a3 f z0) (upd a4 f (nI zs)) (upd a6 f x9)) :
    mt_d (fun p : Int32 × St1 => ∃ b3 b4 b7 b8 b9 b10, p.2 = (f0, a1, a2, b3, b4, upd a5 f x4, upd a6 f x9, b7, b8, b9, b10, a11, a12, upd a13 f 1, a14, a15) ∧ mt_D a1 a2 b3 b4 (upd a6 f x9) ∧ mt_C a1 (upd a6 f x9) b7 b8 b10)
      (fun q => wX_define_142 (fun r u => q (r, u)) (nI f) (nI k) x4 (nI s) x9 x10 z0 (nI f) f0 a1 a2 a3 a4 a5 a6 a7 a8 a9 a10 a11 a12 a13 a14 a15) := by
  have e := mt_cl18 hf
  refine mt_an (mt_i18 hf) (mt_nm (e' := upd a3 f z0) (by rw [e]) (mt_cl (A := fun p => wpX_namesS p _ _) (mt_nS hk) (fun r hr => ?_)))
  rcases hr with ⟨rfl, n6, n8⟩ | ⟨rfl, h⟩
  · have D0 := hD 0 (by omega) (fun h => absurd h (by omega))
    exact mt_bt rfl (mt_wk (mt_d161 (z0 := nI 0) hf D0) (fun p hp => by
      obtain ⟨b7, b8, b9, b10, ep, hC⟩ := hp
      exact ⟨_, _, b7, b8, b9, b10, ep, D0, hC⟩))
  · have D0 := hD s hs (fun _ => rfl)
    exact mt_bf (by decide) (mt_wk (mt_d161 hf D0) (fun p hp => by
      obtain ⟨b7, b8, b9, b10, ep, hC⟩ := hp
      exact ⟨_, _, b7, b8, b9, b10, ep, D0, hC⟩))
theorem mt_d123 {f k b s : Nat} {x4 x9 x10 z0 : Int32} (hf : f < 18) (hk : k ≤ 8) (hb : b < 18) (hs : s < 18) (hD : ∀ zb, zb < 18 → (2 ≤ k ∧ k ≤ 6 → zb = b) → ∀ zs, zs < 18 → (k = 6 ∨ k = 8 → zs = s) → mt_D a1 (upd a2 f z0) (upd a3 f (nI zb)) (upd a4 f (nI zs)) (upd a6 f x9)) :
    mt_d (fun p : Int32 × St1 => ∃ b3 b4 b7 b8 b9 b10, p.2 = (f0, a1, upd a2 f z0, b3, b4, upd a5 f x4, upd a6 f x9, b7, b8, b9, b10, a11, a12, upd a13 f 1, a14, a15) ∧ mt_D a1 (upd a2 f z0) b3 b4 (upd a6 f x9) ∧ mt_C a1 (upd a6 f x9) b7 b8 b10)
      (fun q => wX_define_123 (fun r u => q (r, u)) (nI f) (nI k) x4 (nI b) (nI s) x9 x10 z0 (nI f) f0 a1 a2 a3 a4 a5 a6 a7 a8 a9 a10 a11 a12 a13 a14 a15) := by
  have e := mt_cl18 hf
  refine mt_an (mt_i18 hf) (mt_nm (e' := upd a2 f z0) (by rw [e]) (mt_cl (A := fun p => wpX_namesB p _ _) (mt_nB hk) (fun r hr => ?_)))
  rcases hr with ⟨rfl, n⟩ | ⟨rfl, h⟩
  · exact mt_bt rfl (mt_d142 (z0 := nI 0) hf hk hs (hD 0 (by omega) (fun h => absurd h n)))
  · exact mt_bf (by decide) (mt_d142 hf hk hs (hD b hb (fun _ => rfl)))
/-- what a definition of flow f leaves as it was -/
def mt_kp (f : Nat) (u v : St1) : Prop := match u with
  | (f0, a1, a2, a3, a4, a5, a6, a7, a8, a9, a10, a11, a12, a13, a14, a15) => match v with
    | (g0, b1, b2, _, _, b5, _, _, _, _, _, _, b12, b13, _, b15) => g0 = f0 ∧ (∀ g, g ≠ f → b1 g = a1 g ∧ b2 g = a2 g ∧ b5 g = a5 g ∧ b13 g = a13 g) ∧ b12 = a12 ∧ b15 = a15
def mt_s7 (f a : Nat) (c : Int32) (v : St1) : Prop := match v with
  | (f0, a1, a2, a3, a4, a5, a6, a7, a8, a9, a10, a11, a12, a13, a14, a15) => a1 f = 7 ∧ a2 f = nI a ∧ a5 f = c ∧ a13 f = 1
theorem mt_def {f k a b s : Nat} {p2 c : Int32} (hI : mt_I (f0, a1, a2, a3, a4, a5, a6, a7, a8, a9, a10, a11, a12, a13, a14, a15)) (hf : f < 18) (hk : k ≤ 8) (ha : a < 18) (hb : b < 18) (hs : s < 18)
    (e5 : p2 &&& 31 = nI a) (e6 : (p2 >>> ((5 : Int32) &&& 31)) &&& 31 = nI b) (e7 : (p2 >>> ((10 : Int32) &&& 31)) &&& 31 = nI s) :
    mt_d (fun p : Int32 × St1 => mt_I p.2 ∧ mt_kp f (f0, a1, a2, a3, a4, a5, a6, a7, a8, a9, a10, a11, a12, a13, a14, a15) p.2 ∧ (k = 7 → mt_s7 f a c p.2)) (fun q => wpX_define (fun r u => q (r, u)) (f0, a1, a2, a3, a4, a5, a6, a7, a8, a9, a10, a11, a12, a13, a14, a15) (nI f) (nI k) p2 c) := by
  obtain ⟨hD, hC⟩ := hI
  have hN : ∀ f, f < 18 → ∀ g, mb_t (a6 f) g = true → g < 18 := by
    obtain ⟨_, _, _, _, rk, hN⟩ := hD
    exact fun f hf g hg => (hN f hf g hg).1
  unfold wpX_define
  refine mt_cl (A := fun p => wpX_off p _ _) (mt_offD hf) (fun r hr => mt_bt hr (mt_bf (nI_pos (by omega)) (mt_bt (nI_le (b := 8) hk (by decide)) (mt_nm e5 (mt_nm e6 (mt_nm e7 (mt_cl (A := fun p => wpX_badOperands p _ _ _ _ _) (mt_bad hk ha hb hs) (fun r hr => mt_bt hr
    (mt_cl (A := fun p => wpX_operandSet p _ _ _ _ _) (mt_ops hk ha hb hs) (fun set hset => mt_cl (A := fun p => wpX_closure p _ _) (mt_clos hN hset.1) (fun all hall => ?_)))))))))))
  obtain ⟨o1, o2, o3, o4, o5⟩ := hset
  refine mt_br (fun hz => mt_rt ⟨⟨hD, hC⟩, ⟨rfl, fun g _ => ⟨rfl, rfl, rfl, rfl⟩, rfl, rfl⟩, fun h7 => ?_⟩) (fun hz => ?_)
  · exact absurd ((mb_b1 all hf).mp hz) (fun z => hall.2.2.2 (fun _ => False) (fun g hg => absurd ((o2 h7 g).symm.trans hg) (by decide)) (fun _ _ _ h _ => h) f z)
  · have hn : ¬ mb_t all f = true := fun z => hz ((mb_b1 all hf).mpr z)
    have DD : ∀ za, za < 18 → (2 ≤ k → za = a) → ∀ zb, zb < 18 → (2 ≤ k ∧ k ≤ 6 → zb = b) → ∀ zs, zs < 18 → (k = 6 ∨ k = 8 → zs = s) → mt_D (upd a1 f (nI k)) (upd a2 f (nI za)) (upd a3 f (nI zb)) (upd a4 f (nI zs)) (upd a6 f set) :=
      fun za hza eza zb hzb ezb zs hzs ezs => mt_Dnew hD hf hk hza hzb hzs hall hn
        (fun h2 h6 => by rw [eza h2, ezb ⟨h2, h6⟩]; exact o3 h2 h6) (fun h6 => by rw [ezs (Or.inl h6)]; exact o4 h6) (fun h8 => by rw [eza (by omega), ezs (Or.inr h8)]; exact o5 h8)
    refine mt_an (mt_i18 hf) (mt_nm (e' := upd a1 f (nI k)) (by rw [mt_cl18 hf]) (mt_cl (A := fun p => wpX_namesA p _ _) (mt_nA hk) (fun r hr => ?_)))
    rcases hr with ⟨rfl, n⟩ | ⟨rfl, h2⟩
    · refine mt_bt rfl (mt_wk (mt_d123 (z0 := nI 0) hf hk hb hs (DD 0 (by omega) (fun h => absurd h (by omega)))) (fun p hp => ?_))
      obtain ⟨r, v⟩ := p
      obtain ⟨b3, b4, b7, b8, b9, b10, ep, hD', hC'⟩ := hp
      dsimp only at ep
      subst ep
      exact ⟨⟨hD', hC'⟩, ⟨rfl, fun g hg => ⟨pk_un hg, pk_un hg, pk_un hg, pk_un hg⟩, rfl, rfl⟩, fun h7 => absurd h7 (by omega)⟩
    · refine mt_bf (by decide) (mt_wk (mt_d123 hf hk hb hs (DD a ha (fun _ => rfl))) (fun p hp => ?_))
      obtain ⟨r, v⟩ := p
      obtain ⟨b3, b4, b7, b8, b9, b10, ep, hD', hC'⟩ := hp
      dsimp only at ep
      subst ep
      refine ⟨⟨hD', hC'⟩, ⟨rfl, fun g hg => ⟨pk_un hg, pk_un hg, pk_un hg, pk_un hg⟩, rfl, rfl⟩, fun h7 => ?_⟩
      subst h7
      exact ⟨pk_us, pk_us, pk_us, pk_us⟩
/-! ===== a new one ===== -/
def mt_cp (w a : Nat → Int32) : Nat → (Nat → Int32)
  | 0 => a
  | n + 1 => upd (mt_cp w a n) n (w n)
theorem mt_cpl {w a : Nat → Int32} {n j : Nat} (h : j < n) : mt_cp w a n j = w j := by
  induction n with
  | zero => exact absurd h (Nat.not_lt_zero _)
  | succ n ih =>
    show upd (mt_cp w a n) n (w n) j = w j
    by_cases e : j = n
    · subst e
      exact pk_us
    · rw [pk_un e]
      exact ih (by omega)
def mt_u0 (i : Nat) : St1 := (0, mt_cp (fun _ => 1) (fun _ => 0) i, (fun _ => 0), (fun _ => 0), (fun _ => 0), (fun _ => 0), (fun _ => 0), (fun _ => 0), (fun _ => 0), (fun _ => 0), (fun _ => 0), (fun _ => 0), (fun _ => 0), mt_cp (fun _ => 1) (fun _ => 0) i, (fun _ => 0), (fun _ => 0))
theorem mt_D0 : mt_D (mt_cp (fun _ => 1) (fun _ => 0) 18) (fun _ => 0) (fun _ => 0) (fun _ => 0) (fun _ => 0) := by
  have z : vp_in 0 18 := mt_i18 (f := 0) (by omega)
  refine ⟨fun f hf => ⟨1, by omega, mt_cpl hf, fun h => absurd h (by omega), fun h => absurd h (by omega), fun h => absurd h (by omega)⟩, fun _ _ => z, fun _ _ => z, fun _ _ => z, fun _ => 0, fun f _ g hg => ?_⟩
  exact absurd ((mb_0 g).symm.trans hg) (by decide)
theorem mt_i125 : ∀ m i, i + m = 18 → mt_d mt_I (fun post => wX_init_125 post 15 256 15 256 0 (m + 1) (nI i) (mt_u0 i).2.1 (mt_u0 i).2.2.1 (mt_u0 i).2.2.2.1 (mt_u0 i).2.2.2.2.1 (mt_u0 i).2.2.2.2.2.1 (mt_u0 i).2.2.2.2.2.2.1 (mt_u0 i).2.2.2.2.2.2.2.1 (mt_u0 i).2.2.2.2.2.2.2.2.1 (mt_u0 i).2.2.2.2.2.2.2.2.2.1 (mt_u0 i).2.2.2.2.2.2.2.2.2.2.1 (mt_u0 i).2.2.2.2.2.2.2.2.2.2.2.1 (mt_u0 i).2.2.2.2.2.2.2.2.2.2.2.2.1 (mt_u0 i).2.2.2.2.2.2.2.2.2.2.2.2.2.1 (mt_u0 i).2.2.2.2.2.2.2.2.2.2.2.2.2.2.1 (mt_u0 i).2.2.2.2.2.2.2.2.2.2.2.2.2.2.2) := by
  intro m
  induction m with
  | zero =>
    intro i hi
    have e : i = 18 := by omega
    subst e
    refine mt_bt (by decide) (mt_cl (A := fun p => wpX_compile p _) (mt_comp mt_D0) (fun u hu => ?_))
    obtain ⟨b7, b8, b9, b10, eu, hC⟩ := hu
    subst eu
    exact mt_rt ⟨mt_D0, hC⟩
  | succ m ih =>
    intro i hi
    have i18 : i < 18 := by omega
    exact mt_bf (nI_ge (b := 18) i18 (by decide)) (mt_an (mt_i18 i18) (mt_nm (e' := mt_cp (fun _ => 1) (fun _ => 0) (i + 1)) (by rw [mt_cl18 i18]; rfl) (mt_an (mt_i18 i18) (mt_nm (e' := mt_cp (fun _ => 1) (fun _ => 0) (i + 1)) (by rw [mt_cl18 i18]; rfl) (mt_nm (nI_1 i) (ih (i + 1) (by omega)))))))
theorem mt_init : mt_d mt_I (fun post => wpX_init post 15 256 0) :=
  mt_an (by omega) (mt_an (by omega) (mt_an (by omega) (mt_an (by omega) (mt_an (by omega) (mt_an (by omega) (mt_an (by omega) (mt_an (by omega) (mt_an (by omega) (mt_an (by omega) (mt_an (by omega) (mt_an (by omega) (mt_an (by omega) (mt_an (by omega) (mt_an (by omega) (mt_an (by omega) (mt_an (by omega) (mt_an (by omega) (mt_an (by omega) (mt_an (by omega) (mt_an (by omega) (mt_an (by omega) (mt_an (by omega) (mt_an (by omega) (mt_an (by omega) (mt_an (by omega) (mt_an (by omega) (mt_an (by omega) (mt_an (by omega) (mt_an (by omega) (mt_ex 19 (mt_i125 18 0 (by omega))))))))))))))))))))))))))))))))
end
end
section
section
variable {f0 : Int32} {a1 a2 a3 a4 a5 a6 a7 a8 a9 a10 a11 a12 a13 a14 a15 : Nat → Int32}
/-! ===== one instant: what workAll puts into the working values ===== -/
/-- what a memory answers -/
def mt_mem (a5 a12 a13 : Nat → Int32) (f : Nat) : Int32 := if a13 f = 0 then a12 f else a5 f
def mt_work (a1 a2 a3 a4 a5 a11 a12 a13 w : Nat → Int32) (f : Nat) : Int32 :=
  if a1 f = 0 then a11 (a5 f &&& 3).toNatClampNeg else if a1 f = 7 then mt_mem a5 a12 a13 f else
  if a1 f = 8 then (if w (a4 f).toNatClampNeg = 0 then mt_mem a5 a12 a13 f else w (a2 f).toNatClampNeg) else
  mt_comb (a1 f) (w (a2 f).toNatClampNeg) (w (a3 f).toNatClampNeg) (w (a4 f).toNatClampNeg)
theorem mt_memW {post : Int32 → Prop} {f : Nat} (hf : f < 18) (hp : post (mt_mem a5 a12 a13 f)) : (a13 f = 0 → vp_in (nI f) 18 ∧ post (a12 f)) ∧ (¬ a13 f = 0 → vp_in (nI f) 18 ∧ post (a5 f)) := by
  unfold mt_mem at hp
  by_cases h : a13 f = 0
  · rw [if_pos h] at hp
    exact br_t h ⟨mt_i18 hf, hp⟩
  · rw [if_neg h] at hp
    exact br_f h ⟨mt_i18 hf, hp⟩
theorem mt_workW {post : Int32 → Prop} {f : Nat} (hf : f < 18) (h2 : vp_in (a2 f) 18) (h3 : vp_in (a3 f) 18) (h4 : vp_in (a4 f) 18) (hp : post (mt_work a1 a2 a3 a4 a5 a11 a12 a13 a14 f)) :
    wpX_work post (f0, a1, a2, a3, a4, a5, a6, a7, a8, a9, a10, a11, a12, a13, a14, a15) (nI f) := by
  have i := mt_i18 hf
  unfold wpX_work
  dsimp only
  rw [mt_cl18 hf]
  unfold mt_work at hp
  refine ⟨i, nm_e (br_c (fun h => ?_) (fun h => ?_))⟩
  · rw [if_pos h] at hp
    exact ⟨i, pk_andIn (a5 f) (m := 3) 2 (by decide) (by omega), hp⟩
  · rw [if_neg h] at hp
    refine br_c (fun h => ?_) (fun h => ?_)
    · rw [if_pos h] at hp
      exact ⟨i, mt_memW hf hp⟩
    · rw [if_neg h] at hp
      refine ⟨i, h2, nm_e ⟨i, h4, nm_e (br_c (fun h => ?_) (fun h => ?_))⟩⟩
      · rw [if_pos h] at hp
        refine br_c (fun h => ?_) (fun h => ?_)
        · rw [if_pos h] at hp
          exact ⟨i, mt_memW hf hp⟩
        · rw [if_neg h] at hp
          exact hp
      · rw [if_neg h] at hp
        exact ⟨i, h3, mt_combW hp⟩
def mt_V (a1 a2 a3 a4 a5 a8 a9 a10 a11 a12 a13 w : Nat → Int32) (f : Nat) : Int32 :=
  if a8 f = 0 then (if a10 f = nI f then mt_work a1 a2 a3 a4 a5 a11 a12 a13 w f else w (a10 f).toNatClampNeg) else a9 f
def mt_run (V : (Nat → Int32) → Nat → Int32) (a7 : Nat → Int32) (w : Nat → Int32) : Nat → (Nat → Int32)
  | 0 => w
  | n + 1 => upd (mt_run V a7 w n) (a7 n).toNatClampNeg (V (mt_run V a7 w n) (a7 n).toNatClampNeg)
theorem mt_wa2 {post : St1 → Prop} (hD : mt_D a1 a2 a3 a4 a6) (hC : mt_C a1 a6 a7 a8 a10) (w : Nat → Int32)
    (hp : post (f0, a1, a2, a3, a4, a5, a6, a7, a8, a9, a10, a11, a12, a13, mt_run (mt_V a1 a2 a3 a4 a5 a8 a9 a10 a11 a12 a13) a7 w 18, a15)) :
    ∀ m i, i + m = 18 → wX_workAll_2 post f0 (m + 1) (nI i) a1 a2 a3 a4 a5 a6 a7 a8 a9 a10 a11 a12 a13 (mt_run (mt_V a1 a2 a3 a4 a5 a8 a9 a10 a11 a12 a13) a7 w i) a15 := by
  intro m
  induction m with
  | zero =>
    intro i hi
    have e : i = 18 := by omega
    subst e
    exact br_t (by decide) hp
  | succ m ih =>
    intro i hi
    have hi' : i < 18 := by omega
    obtain ⟨hK, hA, hB, hC4, _⟩ := hD
    obtain ⟨o, ⟨hO1, hO2, hO3, hO4⟩, hQ⟩ := hC
    have hf := (hO1 i hi').1
    have e7 := (hO1 i hi').2
    have ec : (a7 i).toNatClampNeg = o i := by rw [e7, mt_cl18 hf]
    have nx := ih (i + 1) (by omega)
    have er : mt_run (mt_V a1 a2 a3 a4 a5 a8 a9 a10 a11 a12 a13) a7 w (i + 1) = upd (mt_run (mt_V a1 a2 a3 a4 a5 a8 a9 a10 a11 a12 a13) a7 w i) (o i) (mt_V a1 a2 a3 a4 a5 a8 a9 a10 a11 a12 a13 (mt_run (mt_V a1 a2 a3 a4 a5 a8 a9 a10 a11 a12 a13) a7 w i) (o i)) := by
      rw [← ec]
      rfl
    rw [er] at nx
    generalize mt_run (mt_V a1 a2 a3 a4 a5 a8 a9 a10 a11 a12 a13) a7 w i = W at nx ⊢
    have I := mt_i18 hf
    have c := mt_cl18 hf
    refine br_f (nI_ge (b := 18) hi' (by decide)) ⟨mt_i18 hi', nm_r (e' := nI (o i)) (by rw [mt_cl18 hi', e7]) ⟨I, ?_⟩⟩
    rw [c]
    unfold mt_V at nx
    refine br_c (fun h8 => ⟨I, br_c (fun h10 => ?_) (fun h10 => ?_)⟩) (fun h8 => ?_)
    · rw [if_pos h8, if_pos h10] at nx
      exact mt_workW hf (hA _ hf) (hB _ hf) (hC4 _ hf) ⟨I, nm_e (nm_r (nI_1 i) nx)⟩
    · rw [if_pos h8, if_neg h10] at nx
      have hr : vp_in (a10 (o i)) 18 := by
        rcases (hQ i hi').2.2 with h | ⟨j, hj, h⟩
        · rw [h]; exact I
        · rw [h]; exact mt_i18 (hO1 j (by omega)).1
      exact ⟨I, hr, I, nm_e (nm_r (nI_1 i) nx)⟩
    · rw [if_neg h8] at nx
      exact ⟨I, I, nm_e (nm_r (nI_1 i) nx)⟩
/-- the working values of the instant -/
def mt_W (u : St1) : Nat → Int32 := match u with
  | (f0, a1, a2, a3, a4, a5, a6, a7, a8, a9, a10, a11, a12, a13, a14, a15) => mt_run (mt_V a1 a2 a3 a4 a5 a8 a9 a10 a11 a12 a13) a7 a14 18
/-- the state with other working values -/
def mt_w (u : St1) (w : Nat → Int32) : St1 := match u with
  | (f0, a1, a2, a3, a4, a5, a6, a7, a8, a9, a10, a11, a12, a13, a14, a15) => (f0, a1, a2, a3, a4, a5, a6, a7, a8, a9, a10, a11, a12, a13, w, a15)
theorem mt_wAll {post : St1 → Prop} {u : St1} (hI : mt_I u) (hp : post (mt_w u (mt_W u))) : wpX_workAll post u := by
  obtain ⟨f0, a1, a2, a3, a4, a5, a6, a7, a8, a9, a10, a11, a12, a13, a14, a15⟩ := u
  exact ⟨19, mt_wa2 hI.1 hI.2 a14 hp 18 0 (by omega)⟩
/-! ===== they don't hang on what the working values were ===== -/
theorem mt_combS {k : Nat} (h2 : 2 ≤ k) (h5 : k ≤ 5) (a b s s' : Int32) : mt_comb (nI k) a b s = mt_comb (nI k) a b s' := by
  unfold mt_comb
  have e2 : ¬ nI k < 2 := nI_nlt (b := 2) h2 (by omega)
  have e5 : ¬ 5 < nI k := nI_nlt (a := 5) h5 (by omega)
  rw [if_neg e2, if_neg e2, if_neg e5, if_neg e5]
theorem mt_Vc {o : Nat → Nat} (hD : mt_D a1 a2 a3 a4 a6) (hO : mt_O a6 a7 o) (hQ : mt_Q a1 a8 a10 o 18) {i : Nat} (hi : i < 18) {w w' : Nat → Int32} (h : ∀ j, j < i → w (o j) = w' (o j)) :
    mt_V a1 a2 a3 a4 a5 a8 a9 a10 a11 a12 a13 w (o i) = mt_V a1 a2 a3 a4 a5 a8 a9 a10 a11 a12 a13 w' (o i) := by
  obtain ⟨hK, hA, hB, hC, _⟩ := hD
  obtain ⟨hO1, hO2, hO3, hO4⟩ := hO
  obtain ⟨q1, q7, qs⟩ := hQ i hi
  have hf := (hO1 i hi).1
  have g : ∀ x, mb_t (a6 (o i)) x = true → w x = w' x := fun x hx => by
    obtain ⟨j, hj, ej⟩ := hO2 i hi x hx
    rw [← ej]
    exact h j hj
  unfold mt_V
  by_cases h8 : a8 (o i) = 0
  · rw [if_pos h8, if_pos h8]
    by_cases h10 : a10 (o i) = nI (o i)
    · rw [if_pos h10, if_pos h10]
      obtain ⟨k, hk, ek, k26, k6, k8⟩ := hK (o i) hf
      unfold mt_work
      by_cases e0 : a1 (o i) = 0
      · rw [if_pos e0, if_pos e0]
      · rw [if_neg e0, if_neg e0]
        by_cases e7 : a1 (o i) = 7
        · rw [if_pos e7, if_pos e7]
        · rw [if_neg e7, if_neg e7]
          by_cases e8 : a1 (o i) = 8
          · have hk8 : k = 8 := (nI_eq (b := 8) (by omega) (by omega)).mp (ek.symm.trans e8)
            rw [if_pos e8, if_pos e8, g _ (k8 hk8).1, g _ (k8 hk8).2]
          · have n0 : k ≠ 0 := fun z => e0 (by rw [ek, z]; rfl)
            have n1 : k ≠ 1 := fun z => q1 (by rw [ek, z]; rfl) h8
            have n7 : k ≠ 7 := fun z => e7 (by rw [ek, z]; rfl)
            have n8 : k ≠ 8 := fun z => e8 (by rw [ek, z]; rfl)
            have ab := k26 (by omega) (by omega)
            rw [if_neg e8, if_neg e8, g _ ab.1, g _ ab.2]
            by_cases h6 : k = 6
            · rw [g _ (k6 h6)]
            · rw [ek]
              exact mt_combS (by omega) (by omega) _ _ _ _
    · rw [if_neg h10, if_neg h10]
      rcases qs with z | ⟨j, hj, z⟩
      · exact absurd z h10
      · rw [z, mt_cl18 (hO1 j (by omega)).1]
        exact h j hj
  · rw [if_neg h8, if_neg h8]
theorem mt_runO {V : (Nat → Int32) → Nat → Int32} {w w' : Nat → Int32} {o : Nat → Nat} (hO1 : ∀ i, i < 18 → o i < 18 ∧ a7 i = nI (o i))
    (hV : ∀ i, i < 18 → ∀ v v' : Nat → Int32, (∀ j, j < i → v (o j) = v' (o j)) → V v (o i) = V v' (o i)) :
    ∀ n, n ≤ 18 → ∀ i, i < n → mt_run V a7 w n (o i) = mt_run V a7 w' n (o i) := by
  intro n
  induction n with
  | zero => exact fun _ i hi => absurd hi (Nat.not_lt_zero _)
  | succ n ih =>
    intro hn i hi
    have ih' := ih (by omega)
    have hn' : n < 18 := by omega
    have ec : (a7 n).toNatClampNeg = o n := by rw [(hO1 n hn').2, mt_cl18 (hO1 n hn').1]
    show upd (mt_run V a7 w n) (a7 n).toNatClampNeg (V (mt_run V a7 w n) (a7 n).toNatClampNeg) (o i) = upd (mt_run V a7 w' n) (a7 n).toNatClampNeg (V (mt_run V a7 w' n) (a7 n).toNatClampNeg) (o i)
    rw [ec]
    by_cases e : o i = o n
    · rw [e, pk_us, pk_us]
      exact hV n hn' _ _ ih'
    · rw [pk_un e, pk_un e]
      exact ih' i (by
        have : i ≠ n := fun z => e (by rw [z])
        omega)
theorem mt_runX {V : (Nat → Int32) → Nat → Int32} {w : Nat → Int32} {o : Nat → Nat} (hO1 : ∀ i, i < 18 → o i < 18 ∧ a7 i = nI (o i)) {g : Nat} (hg : 18 ≤ g) :
    ∀ n, n ≤ 18 → mt_run V a7 w n g = w g := by
  intro n
  induction n with
  | zero => exact fun _ => rfl
  | succ n ih =>
    intro hn
    have hn' : n < 18 := by omega
    have ec : (a7 n).toNatClampNeg = o n := by rw [(hO1 n hn').2, mt_cl18 (hO1 n hn').1]
    show upd (mt_run V a7 w n) (a7 n).toNatClampNeg (V (mt_run V a7 w n) (a7 n).toNatClampNeg) g = w g
    have := (hO1 n hn').1
    rw [ec, pk_un (by omega)]
    exact ih (by omega)
/-- again: the same -/
theorem mt_WW {u : St1} (hI : mt_I u) : mt_W (mt_w u (mt_W u)) = mt_W u := by
  obtain ⟨f0, a1, a2, a3, a4, a5, a6, a7, a8, a9, a10, a11, a12, a13, a14, a15⟩ := u
  obtain ⟨hD, o, hO, hQ⟩ := hI
  have hO' := hO
  obtain ⟨hO1, hO2, hO3, hO4⟩ := hO'
  show mt_run (mt_V a1 a2 a3 a4 a5 a8 a9 a10 a11 a12 a13) a7 (mt_run (mt_V a1 a2 a3 a4 a5 a8 a9 a10 a11 a12 a13) a7 a14 18) 18 = mt_run (mt_V a1 a2 a3 a4 a5 a8 a9 a10 a11 a12 a13) a7 a14 18
  apply funext
  intro g
  by_cases hg : g < 18
  · obtain ⟨i, hi, ei⟩ := hO3 g hg
    rw [← ei]
    exact mt_runO hO1 (fun i hi v v' h => mt_Vc hD hO hQ hi h) 18 (Nat.le_refl _) i hi
  · rw [mt_runX hO1 (by omega) 18 (Nat.le_refl _)]
/-- a value that hangs on no other -/
theorem mt_runK {V : (Nat → Int32) → Nat → Int32} {w : Nat → Int32} {o : Nat → Nat} (hO1 : ∀ i, i < 18 → o i < 18 ∧ a7 i = nI (o i)) {f : Nat} {c : Int32} (hV : ∀ v : Nat → Int32, V v f = c) :
    ∀ n, n ≤ 18 → (∃ i, i < n ∧ o i = f) → mt_run V a7 w n f = c := by
  intro n
  induction n with
  | zero => exact fun _ ⟨i, hi, _⟩ => absurd hi (Nat.not_lt_zero _)
  | succ n ih =>
    intro hn ⟨i, hi, ei⟩
    have hn' : n < 18 := by omega
    have ec : (a7 n).toNatClampNeg = o n := by rw [(hO1 n hn').2, mt_cl18 (hO1 n hn').1]
    show upd (mt_run V a7 w n) (a7 n).toNatClampNeg (V (mt_run V a7 w n) (a7 n).toNatClampNeg) f = c
    rw [ec]
    by_cases e : f = o n
    · rw [← e, pk_us]
      exact hV _
    · rw [pk_un e]
      exact ih (by omega) ⟨i, by
        have : i ≠ n := fun z => e (by rw [← ei, z])
        omega, ei⟩
/-- a PRE flow answers its memory -/
theorem mt_Wpre {f : Nat} (hI : mt_I (f0, a1, a2, a3, a4, a5, a6, a7, a8, a9, a10, a11, a12, a13, a14, a15)) (hf : f < 18) (h7 : a1 f = 7) : mt_W (f0, a1, a2, a3, a4, a5, a6, a7, a8, a9, a10, a11, a12, a13, a14, a15) f = mt_mem a5 a12 a13 f := by
  obtain ⟨hD, o, ⟨hO1, hO2, hO3, hO4⟩, hQ⟩ := hI
  refine mt_runK hO1 (fun v => ?_) 18 (Nat.le_refl _) (hO3 f hf)
  obtain ⟨i, hi, ei⟩ := hO3 f hf
  have q := (hQ i hi).2.1
  rw [ei] at q
  unfold mt_V mt_work
  rw [if_pos (q h7).1, if_pos (q h7).2, if_neg (by rw [h7]; decide), if_pos h7]
end
end
section
section
variable {f0 : Int32} {a1 a2 a3 a4 a5 a6 a7 a8 a9 a10 a11 a12 a13 a14 a15 : Nat → Int32}
/-! ===== finish, step ===== -/
def mt_f12 (a1 a2 w a12 : Nat → Int32) : Nat → (Nat → Int32)
  | 0 => a12
  | n + 1 => if a1 n = 7 then upd (mt_f12 a1 a2 w a12 n) n (w (a2 n).toNatClampNeg) else if a1 n = 8 then upd (mt_f12 a1 a2 w a12 n) n (w n) else mt_f12 a1 a2 w a12 n
theorem mt_f12x {w : Nat → Int32} {n j : Nat} (h : n ≤ j) : mt_f12 a1 a2 w a12 n j = a12 j := by
  induction n with
  | zero => rfl
  | succ n ih =>
    have ih' := ih (by omega)
    have ne : j ≠ n := by omega
    show (if a1 n = 7 then upd (mt_f12 a1 a2 w a12 n) n (w (a2 n).toNatClampNeg) else if a1 n = 8 then upd (mt_f12 a1 a2 w a12 n) n (w n) else mt_f12 a1 a2 w a12 n) j = a12 j
    by_cases h7 : a1 n = 7
    · rw [if_pos h7, pk_un ne, ih']
    · rw [if_neg h7]
      by_cases h8 : a1 n = 8
      · rw [if_pos h8, pk_un ne, ih']
      · rw [if_neg h8, ih']
theorem mt_f12l {w : Nat → Int32} {n j : Nat} (h : j < n) (h7 : a1 j = 7) : mt_f12 a1 a2 w a12 n j = w (a2 j).toNatClampNeg := by
  induction n with
  | zero => exact absurd h (Nat.not_lt_zero _)
  | succ n ih =>
    show (if a1 n = 7 then upd (mt_f12 a1 a2 w a12 n) n (w (a2 n).toNatClampNeg) else if a1 n = 8 then upd (mt_f12 a1 a2 w a12 n) n (w n) else mt_f12 a1 a2 w a12 n) j = w (a2 j).toNatClampNeg
    by_cases e : j = n
    · subst e
      rw [if_pos h7, pk_us]
    · have ih' := ih (by omega)
      by_cases g7 : a1 n = 7
      · rw [if_pos g7, pk_un e, ih']
      · rw [if_neg g7]
        by_cases g8 : a1 n = 8
        · rw [if_pos g8, pk_un e, ih']
        · rw [if_neg g8, ih']
theorem mt_fin2 {post : St1 → Prop} (hA : ∀ f, f < 18 → vp_in (a2 f) 18) (w : Nat → Int32)
    (hp : post (f0 + 1, a1, a2, a3, a4, a5, a6, a7, a8, a9, a10, a11, mt_f12 a1 a2 w a12 18, mt_cp (fun _ => 0) a13 18, w, mt_cp w a15 18)) :
    ∀ m i, i + m = 18 → wX_finish_2 post f0 (m + 1) (nI i) a1 a2 a3 a4 a5 a6 a7 a8 a9 a10 a11 (mt_f12 a1 a2 w a12 i) (mt_cp (fun _ => 0) a13 i) w (mt_cp w a15 i) := by
  intro m
  induction m with
  | zero =>
    intro i hi
    have e : i = 18 := by omega
    subst e
    exact br_t (by decide) (nm_e hp)
  | succ m ih =>
    intro i hi
    have hi' : i < 18 := by omega
    have nx := ih (i + 1) (by omega)
    have I := mt_i18 hi'
    have c := mt_cl18 hi'
    have K : ∀ b12, b12 = mt_f12 a1 a2 w a12 (i + 1) → wX_finish_59 post (wX_finish_2 post f0 (m + 1)) (nI i) f0 a1 a2 a3 a4 a5 a6 a7 a8 a9 a10 a11 b12 (mt_cp (fun _ => 0) a13 i) w (mt_cp w a15 i) := by
      intro b12 eb
      subst eb
      exact And.intro I ⟨I, nm_r (e' := mt_cp w a15 (i + 1)) (by rw [c]; rfl) ⟨I, nm_r (e' := mt_cp (fun _ => 0) a13 (i + 1)) (by rw [c]; rfl) (nm_r (nI_1 i) nx)⟩⟩
    have ef : mt_f12 a1 a2 w a12 (i + 1) = if a1 i = 7 then upd (mt_f12 a1 a2 w a12 i) i (w (a2 i).toNatClampNeg) else if a1 i = 8 then upd (mt_f12 a1 a2 w a12 i) i (w i) else mt_f12 a1 a2 w a12 i := rfl
    refine br_f (nI_ge (b := 18) hi' (by decide)) ⟨I, ?_⟩
    rw [c]
    refine br_c (fun h7 => ⟨I, hA i hi', I, nm_e ?_⟩) (fun h7 => ?_)
    · rw [if_pos h7] at ef
      refine And.intro I (br_f (by rw [c, h7]; decide) (K _ ef.symm))
    · rw [if_neg h7] at ef
      refine And.intro I (br_c (fun h8 => ⟨I, I, nm_e (K _ ?_)⟩) (fun h8 => K _ ?_))
      · rw [c] at h8
        rw [if_pos h8] at ef
        rw [c, ef]
      · rw [c] at h8
        rw [if_neg h8] at ef
        exact ef.symm
end
end
section
section
variable {f0 : Int32} {a1 a2 a3 a4 a5 a6 a7 a8 a9 a10 a11 a12 a13 a14 a15 : Nat → Int32}
/-- one instant -/
def mt_G (u : St1) : St1 := match u with
  | (f0, a1, a2, a3, a4, a5, a6, a7, a8, a9, a10, a11, a12, a13, a14, a15) => (f0 + 1, a1, a2, a3, a4, a5, a6, a7, a8, a9, a10, a11, mt_f12 a1 a2 (mt_W (f0, a1, a2, a3, a4, a5, a6, a7, a8, a9, a10, a11, a12, a13, a14, a15)) a12 18, mt_cp (fun _ => 0) a13 18, mt_W (f0, a1, a2, a3, a4, a5, a6, a7, a8, a9, a10, a11, a12, a13, a14, a15), mt_cp (mt_W (f0, a1, a2, a3, a4, a5, a6, a7, a8, a9, a10, a11, a12, a13, a14, a15)) a15 18)
theorem mt_Ge {W : Nat → Int32} (hW : mt_W (f0, a1, a2, a3, a4, a5, a6, a7, a8, a9, a10, a11, a12, a13, a14, a15) = W) : mt_G (f0, a1, a2, a3, a4, a5, a6, a7, a8, a9, a10, a11, a12, a13, a14, a15) = (f0 + 1, a1, a2, a3, a4, a5, a6, a7, a8, a9, a10, a11, mt_f12 a1 a2 W a12 18, mt_cp (fun _ => 0) a13 18, W, mt_cp W a15 18) := by
  subst hW
  rfl
theorem mt_GI {u : St1} (hI : mt_I u) : mt_I (mt_G u) := by
  obtain ⟨f0, a1, a2, a3, a4, a5, a6, a7, a8, a9, a10, a11, a12, a13, a14, a15⟩ := u
  have h : mt_D a1 a2 a3 a4 a6 ∧ mt_C a1 a6 a7 a8 a10 := hI
  have hX : ∃ W, mt_W (f0, a1, a2, a3, a4, a5, a6, a7, a8, a9, a10, a11, a12, a13, a14, a15) = W := ⟨_, rfl⟩
  obtain ⟨W, hW⟩ := hX
  rw [mt_Ge hW]
  unfold mt_I
  exact h
theorem mt_inst {post : St1 → Prop} (hI : mt_I (f0, a1, a2, a3, a4, a5, a6, a7, a8, a9, a10, a11, a12, a13, a14, a15)) (hp : post (mt_G (f0, a1, a2, a3, a4, a5, a6, a7, a8, a9, a10, a11, a12, a13, a14, a15))) : wpX_workAll (fun v => wpX_finish post v) (f0, a1, a2, a3, a4, a5, a6, a7, a8, a9, a10, a11, a12, a13, a14, a15) := by
  have hX : ∃ W, mt_W (f0, a1, a2, a3, a4, a5, a6, a7, a8, a9, a10, a11, a12, a13, a14, a15) = W := ⟨_, rfl⟩
  obtain ⟨W, hW⟩ := hX
  rw [mt_Ge hW] at hp
  refine mt_wAll hI ?_
  rw [hW]
  exact ⟨19, mt_fin2 hI.1.2.1 W hp 18 0 (by omega)⟩
/-- n instants -/
def mt_it : Nat → St1 → St1
  | 0, u => u
  | n + 1, u => mt_it n (mt_G u)
theorem mt_it1 (u : St1) : mt_it 1 u = mt_G u := by
  have h : ∀ v : St1, mt_it 0 v = v := fun v => rfl
  exact h (mt_G u)
theorem mt_its (n : Nat) (u : St1) : mt_it (n + 1) u = mt_it n (mt_G u) := rfl
theorem mt_itI {n : Nat} : ∀ {u : St1}, mt_I u → mt_I (mt_it n u) := by
  induction n with
  | zero => exact fun h => h
  | succ n ih =>
    intro u h
    rw [mt_its]
    exact ih (mt_GI h)
theorem mt_itA (n m : Nat) : ∀ u : St1, mt_it m (mt_it n u) = mt_it (n + m) u := by
  induction n with
  | zero => intro u; rw [Nat.zero_add]; rfl
  | succ n ih =>
    intro u
    rw [show n + 1 + m = (n + m) + 1 by omega, mt_its, mt_its]
    exact ih (mt_G u)
theorem mt_itS (n : Nat) : ∀ u : St1, mt_it (n + 1) u = mt_G (mt_it n u) := by
  intro u
  rw [← mt_itA n 1 u, mt_it1]
end
end
section
section
variable {f0 : Int32} {a1 a2 a3 a4 a5 a6 a7 a8 a9 a10 a11 a12 a13 a14 a15 : Nat → Int32}
theorem mt_st15 {post : Int32 → St1 → Prop} {N : Nat} (hN : N ≤ 100) : ∀ m i, i + m = N → ∀ (f0 : Int32) (a1 a2 a3 a4 a5 a6 a7 a8 a9 a10 a11 a12 a13 a14 a15 : Nat → Int32), mt_I (f0, a1, a2, a3, a4, a5, a6, a7, a8, a9, a10, a11, a12, a13, a14, a15) → post (mt_it m (f0, a1, a2, a3, a4, a5, a6, a7, a8, a9, a10, a11, a12, a13, a14, a15)).1 (mt_it m (f0, a1, a2, a3, a4, a5, a6, a7, a8, a9, a10, a11, a12, a13, a14, a15)) → wX_step_15 post (nI N) (m + 1) (nI i) f0 a1 a2 a3 a4 a5 a6 a7 a8 a9 a10 a11 a12 a13 a14 a15 := by
  intro m
  induction m with
  | zero =>
    intro i hi f0 a1 a2 a3 a4 a5 a6 a7 a8 a9 a10 a11 a12 a13 a14 a15 hI hp
    have e : i = N := by omega
    subst e
    exact br_t (nI_le (Nat.le_refl _) (by omega)) hp
  | succ m ih =>
    intro i hi f0 a1 a2 a3 a4 a5 a6 a7 a8 a9 a10 a11 a12 a13 a14 a15 hI hp
    refine br_f (nI_ge (by omega) (by omega)) (mt_inst hI ?_)
    have hI2 := mt_GI hI
    have hp2 : post (mt_it m (mt_G (f0, a1, a2, a3, a4, a5, a6, a7, a8, a9, a10, a11, a12, a13, a14, a15))).1 (mt_it m (mt_G (f0, a1, a2, a3, a4, a5, a6, a7, a8, a9, a10, a11, a12, a13, a14, a15))) := hp
    generalize mt_G (f0, a1, a2, a3, a4, a5, a6, a7, a8, a9, a10, a11, a12, a13, a14, a15) = g at hI2 hp2 ⊢
    obtain ⟨g0, b1, b2, b3, b4, b5, b6, b7, b8, b9, b10, b11, b12, b13, b14, b15⟩ := g
    exact nm_r (nI_1 i) (ih (i + 1) (by omega) g0 b1 b2 b3 b4 b5 b6 b7 b8 b9 b10 b11 b12 b13 b14 b15 hI2 hp2)
theorem mt_step {post : Int32 → St1 → Prop} {N : Nat} (hN : N ≤ 100) (hI : mt_I (f0, a1, a2, a3, a4, a5, a6, a7, a8, a9, a10, a11, a12, a13, a14, a15)) (hp : post (mt_it N (f0, a1, a2, a3, a4, a5, a6, a7, a8, a9, a10, a11, a12, a13, a14, a15)).1 (mt_it N (f0, a1, a2, a3, a4, a5, a6, a7, a8, a9, a10, a11, a12, a13, a14, a15))) : wpX_step post (f0, a1, a2, a3, a4, a5, a6, a7, a8, a9, a10, a11, a12, a13, a14, a15) (nI N) :=
  br_t (nI_le (b := 100) hN (by decide)) ⟨N + 1, mt_st15 hN N 0 (by omega) _ _ _ _ _ _ _ _ _ _ _ _ _ _ _ _ hI hp⟩
theorem mt_value {post : Int32 → Prop} {f : Nat} (hf : f < 18) (hp : post (a15 f)) : wpX_value post (f0, a1, a2, a3, a4, a5, a6, a7, a8, a9, a10, a11, a12, a13, a14, a15) (nI f) := by
  unfold wpX_value
  dsimp only
  exact mt_off hf (br_t rfl ⟨mt_i18 hf, by rw [mt_cl18 hf]; exact hp⟩)
theorem mt_next {post : Int32 → St1 → Prop} {f : Nat} (hf : f < 18) {u : St1} (hI : mt_I u) (hp : post (mt_W u f) (mt_w u (mt_W u))) : wpX_next post u (nI f) := by
  obtain ⟨f0, a1, a2, a3, a4, a5, a6, a7, a8, a9, a10, a11, a12, a13, a14, a15⟩ := u
  unfold wpX_next
  dsimp only
  refine mt_off hf (br_t rfl (mt_wAll hI ⟨mt_i18 hf, ?_⟩))
  rw [mt_cl18 hf]
  exact hp
theorem mt_nextE {post : Int32 → St1 → Prop} {f : Nat} {W : Nat → Int32} (hf : f < 18) (hI : mt_I (f0, a1, a2, a3, a4, a5, a6, a7, a8, a9, a10, a11, a12, a13, a14, a15)) (hW : mt_W (f0, a1, a2, a3, a4, a5, a6, a7, a8, a9, a10, a11, a12, a13, a14, a15) = W) (hp : post (W f) (f0, a1, a2, a3, a4, a5, a6, a7, a8, a9, a10, a11, a12, a13, W, a15)) : wpX_next post (f0, a1, a2, a3, a4, a5, a6, a7, a8, a9, a10, a11, a12, a13, a14, a15) (nI f) := by
  subst hW
  exact mt_next hf hI hp
theorem mt_input {post : Int32 → St1 → Prop} {k x : Int32} (hp : ∀ r, post r (f0, a1, a2, a3, a4, a5, a6, a7, a8, a9, a10, upd a11 (k &&& 3).toNatClampNeg x, a12, a13, a14, a15)) : wpX_input post (f0, a1, a2, a3, a4, a5, a6, a7, a8, a9, a10, a11, a12, a13, a14, a15) k x :=
  And.intro (pk_andIn k (m := 3) 2 (by decide) (by omega)) (nm_e ⟨pk_andIn k (m := 3) 2 (by decide) (by omega), nm_e (hp _)⟩)
end
end
section
section
variable {f0 : Int32} {a1 a2 a3 a4 a5 a6 a7 a8 a9 a10 a11 a12 a13 a14 a15 : Nat → Int32}
/-! ===== the law: the watched flow t, a PRE of flow q ===== -/
def mt_wt (t q : Nat) (x5 x6 : Int32) (u : St1) : Prop := match u with
  | (f0, a1, a2, a3, a4, a5, a6, a7, a8, a9, a10, a11, a12, a13, a14, a15) => a1 t = 7 ∧ a2 t = nI q ∧ a5 t = 9 ∧ ((¬ x5 = 0 ∧ ¬ a13 t = 0) ∨ (x5 = 0 ∧ a13 t = 0 ∧ a12 t = a15 q ∧ x6 = a15 q))
theorem mt_I1 (h : mt_I (f0, a1, a2, a3, a4, a5, a6, a7, a8, a9, a10, a11, a12, a13, a14, a15)) : mt_D a1 a2 a3 a4 a6 ∧ mt_C a1 a6 a7 a8 a10 := h
theorem mt_I2 (h : mt_D a1 a2 a3 a4 a6 ∧ mt_C a1 a6 a7 a8 a10) : mt_I (f0, a1, a2, a3, a4, a5, a6, a7, a8, a9, a10, a11, a12, a13, a14, a15) := h
theorem mt_Iw (h : mt_I (f0, a1, a2, a3, a4, a5, a6, a7, a8, a9, a10, a11, a12, a13, a14, a15)) (w : Nat → Int32) : mt_I (f0, a1, a2, a3, a4, a5, a6, a7, a8, a9, a10, a11, a12, a13, w, a15) := mt_I2 (mt_I1 h)
theorem mt_Ii (h : mt_I (f0, a1, a2, a3, a4, a5, a6, a7, a8, a9, a10, a11, a12, a13, a14, a15)) (w : Nat → Int32) : mt_I (f0, a1, a2, a3, a4, a5, a6, a7, a8, a9, a10, w, a12, a13, a14, a15) := mt_I2 (mt_I1 h)
theorem mt_wt1 {t q : Nat} {x5 x6 : Int32} (h : mt_wt t q x5 x6 (f0, a1, a2, a3, a4, a5, a6, a7, a8, a9, a10, a11, a12, a13, a14, a15)) : a1 t = 7 ∧ a2 t = nI q ∧ a5 t = 9 ∧ ((¬ x5 = 0 ∧ ¬ a13 t = 0) ∨ (x5 = 0 ∧ a13 t = 0 ∧ a12 t = a15 q ∧ x6 = a15 q)) := h
theorem mt_wt2 {t q : Nat} {x5 x6 : Int32} (h : a1 t = 7 ∧ a2 t = nI q ∧ a5 t = 9 ∧ ((¬ x5 = 0 ∧ ¬ a13 t = 0) ∨ (x5 = 0 ∧ a13 t = 0 ∧ a12 t = a15 q ∧ x6 = a15 q))) : mt_wt t q x5 x6 (f0, a1, a2, a3, a4, a5, a6, a7, a8, a9, a10, a11, a12, a13, a14, a15) := h
theorem mt_wtw {t q : Nat} {x5 x6 : Int32} (h : mt_wt t q x5 x6 (f0, a1, a2, a3, a4, a5, a6, a7, a8, a9, a10, a11, a12, a13, a14, a15)) (w : Nat → Int32) : mt_wt t q x5 x6 (f0, a1, a2, a3, a4, a5, a6, a7, a8, a9, a10, a11, a12, a13, w, a15) := mt_wt2 (mt_wt1 h)
theorem mt_wti {t q : Nat} {x5 x6 : Int32} (h : mt_wt t q x5 x6 (f0, a1, a2, a3, a4, a5, a6, a7, a8, a9, a10, a11, a12, a13, a14, a15)) (w : Nat → Int32) : mt_wt t q x5 x6 (f0, a1, a2, a3, a4, a5, a6, a7, a8, a9, a10, w, a12, a13, a14, a15) := mt_wt2 (mt_wt1 h)
section
variable {post : Int32 → Prop} {L : Nat} {xs : Nat → Int32} {J : (Int32 → Int32 → Int32 → Int32 → (Nat → Int32) → (Nat → Int32) → (Nat → Int32) → (Nat → Int32) → (Nat → Int32) → (Nat → Int32) → (Nat → Int32) → (Nat → Int32) → (Nat → Int32) → (Nat → Int32) → (Nat → Int32) → (Nat → Int32) → (Nat → Int32) → (Nat → Int32) → (Nat → Int32) → Int32 → (Nat → Int32) → (Nat → Int32) → (Nat → Int32) → (Nat → Int32) → (Nat → Int32) → (Nat → Int32) → (Nat → Int32) → (Nat → Int32) → (Nat → Int32) → (Nat → Int32) → (Nat → Int32) → (Nat → Int32) → (Nat → Int32) → (Nat → Int32) → (Nat → Int32) → Prop)} {x3 x4 x5 x6 x7 : Int32} {kc ks : Nat}
/-! ===== the loop over all flows at the end of a turn ===== -/
theorem mt_406 (hI : mt_I (f0, a1, a2, a3, a4, a5, a6, a7, a8, a9, a10, a11, a12, a13, a14, a15)) (H : ∀ w : Nat → Int32, J x5 x6 (x7 + 2) f0 a1 a2 a3 a4 a5 a6 a7 a8 a9 a10 a11 a12 a13 w a15 f0 a1 a2 a3 a4 a5 a6 a7 a8 a9 a10 a11 a12 a13 w a15) :
    ∀ m i, i + m = 18 → ∀ w : Nat → Int32, wL_law_406 post L xs J x3 x4 x5 x6 x7 kc ks (m + 1) (nI i) f0 a1 a2 a3 a4 a5 a6 a7 a8 a9 a10 a11 a12 a13 w a15 f0 a1 a2 a3 a4 a5 a6 a7 a8 a9 a10 a11 a12 a13 w a15 := by
  intro m
  induction m with
  | zero =>
    intro i hi w
    have e : i = 18 := by omega
    subst e
    exact br_t (by decide) (nm_e (H w))
  | succ m ih =>
    intro i hi w
    have hi' : i < 18 := by omega
    have hI' : mt_I (f0, a1, a2, a3, a4, a5, a6, a7, a8, a9, a10, a11, a12, a13, w, a15) := mt_Iw hI w
    have hX : ∃ W, mt_W (f0, a1, a2, a3, a4, a5, a6, a7, a8, a9, a10, a11, a12, a13, w, a15) = W := ⟨_, rfl⟩
    obtain ⟨W, hW⟩ := hX
    exact br_f (nI_ge (b := 18) hi' (by decide)) (mt_value hi' (mt_value hi' (br_t rfl (mt_nextE hi' hI' hW (mt_nextE hi' hI' hW (br_t rfl (mt_needs (mt_I1 hI').1 hi' (br_t rfl (nm_r (nI_1 i) (ih (i + 1) (by omega) W)))))))))) 
theorem mt_406e (hI : mt_I (f0, a1, a2, a3, a4, a5, a6, a7, a8, a9, a10, a11, a12, a13, a14, a15)) (H : ∀ w : Nat → Int32, J x5 x6 (x7 + 2) f0 a1 a2 a3 a4 a5 a6 a7 a8 a9 a10 a11 a12 a13 w a15 f0 a1 a2 a3 a4 a5 a6 a7 a8 a9 a10 a11 a12 a13 w a15) :
    ∃ n, wL_law_406 post L xs J x3 x4 x5 x6 x7 kc ks n 0 f0 a1 a2 a3 a4 a5 a6 a7 a8 a9 a10 a11 a12 a13 a14 a15 f0 a1 a2 a3 a4 a5 a6 a7 a8 a9 a10 a11 a12 a13 a14 a15 := ⟨19, mt_406 hI H 18 0 (by omega) a14⟩
theorem mt_393 {z0 : Int32} {q : Nat} (hq : q < 18) (hI : mt_I (f0, a1, a2, a3, a4, a5, a6, a7, a8, a9, a10, a11, a12, a13, a14, a15)) (H : ∀ w : Nat → Int32, J z0 (a15 q) (x7 + 2) f0 a1 a2 a3 a4 a5 a6 a7 a8 a9 a10 a11 a12 a13 w a15 f0 a1 a2 a3 a4 a5 a6 a7 a8 a9 a10 a11 a12 a13 w a15) :
    wL_law_393 post L xs J x3 (nI q) x7 z0 kc ks f0 a1 a2 a3 a4 a5 a6 a7 a8 a9 a10 a11 a12 a13 a14 a15 f0 a1 a2 a3 a4 a5 a6 a7 a8 a9 a10 a11 a12 a13 a14 a15 := by
  unfold wL_law_393
  exact mt_value hq (mt_406e hI H)
end
end
end
section
section
variable {f0 : Int32} {a1 a2 a3 a4 a5 a6 a7 a8 a9 a10 a11 a12 a13 a14 a15 : Nat → Int32}
variable {post : Int32 → Prop} {L : Nat} {xs : Nat → Int32} {J : (Int32 → Int32 → Int32 → Int32 → (Nat → Int32) → (Nat → Int32) → (Nat → Int32) → (Nat → Int32) → (Nat → Int32) → (Nat → Int32) → (Nat → Int32) → (Nat → Int32) → (Nat → Int32) → (Nat → Int32) → (Nat → Int32) → (Nat → Int32) → (Nat → Int32) → (Nat → Int32) → (Nat → Int32) → Int32 → (Nat → Int32) → (Nat → Int32) → (Nat → Int32) → (Nat → Int32) → (Nat → Int32) → (Nat → Int32) → (Nat → Int32) → (Nat → Int32) → (Nat → Int32) → (Nat → Int32) → (Nat → Int32) → (Nat → Int32) → (Nat → Int32) → (Nat → Int32) → (Nat → Int32) → Prop)} {x3 x4 x5 x6 x7 : Int32} {kc ks : Nat}
/-! ===== one instant, asked for ahead ===== -/
def mt_h (w : Nat → Int32) : Nat → Int64
  | 0 => 0
  | n + 1 => mt_h w n * 31 + (w n).toInt64
theorem mt_hc {v w : Nat → Int32} {n : Nat} (h : ∀ j, j < n → v j = w j) : mt_h v n = mt_h w n := by
  induction n with
  | zero => rfl
  | succ n ih =>
    show mt_h v n * 31 + (v n).toInt64 = mt_h w n * 31 + (w n).toInt64
    rw [ih (fun j hj => h j (by omega)), h n (by omega)]
/-- the state behind an instant, by what is known of it -/
theorem mt_Gx {t q : Nat} {W : Nat → Int32} (ht : t < 18) (hq : q < 18) (hI : mt_I (f0, a1, a2, a3, a4, a5, a6, a7, a8, a9, a10, a11, a12, a13, a14, a15)) (hw : mt_wt t q x5 x6 (f0, a1, a2, a3, a4, a5, a6, a7, a8, a9, a10, a11, a12, a13, a14, a15)) (hW : mt_W (f0, a1, a2, a3, a4, a5, a6, a7, a8, a9, a10, a11, a12, a13, a14, a15) = W) :
    ∃ g : St1, mt_G (f0, a1, a2, a3, a4, a5, a6, a7, a8, a9, a10, a11, a12, a13, a14, a15) = g ∧ (∀ w : Nat → Int32, mt_W (f0, a1, a2, a3, a4, a5, a6, a7, a8, a9, a10, a11, a12, a13, w, a15) = W → mt_G (f0, a1, a2, a3, a4, a5, a6, a7, a8, a9, a10, a11, a12, a13, w, a15) = g) ∧ mt_I g ∧ mt_wt t q 0 (g.2.2.2.2.2.2.2.2.2.2.2.2.2.2.2 q) g ∧ (∀ j, j < 18 → g.2.2.2.2.2.2.2.2.2.2.2.2.2.2.2 j = W j) := by
  have hG := mt_GI hI
  obtain ⟨h1, h2, h5, h⟩ := mt_wt1 hw
  have h13 : mt_cp (fun _ => 0) a13 18 t = 0 := mt_cpl ht
  have h12 : mt_f12 a1 a2 W a12 18 t = mt_cp W a15 18 q := by rw [mt_f12l ht h1, mt_cpl hq, h2, mt_cl18 hq]
  have h15 : ∀ j, j < 18 → mt_cp W a15 18 j = W j := fun j hj => mt_cpl hj
  have e := mt_Ge hW
  have e' : ∀ w : Nat → Int32, mt_W (f0, a1, a2, a3, a4, a5, a6, a7, a8, a9, a10, a11, a12, a13, w, a15) = W → mt_G (f0, a1, a2, a3, a4, a5, a6, a7, a8, a9, a10, a11, a12, a13, w, a15) = mt_G (f0, a1, a2, a3, a4, a5, a6, a7, a8, a9, a10, a11, a12, a13, a14, a15) := fun w h => by rw [mt_Ge hW, mt_Ge h]
  generalize mt_G (f0, a1, a2, a3, a4, a5, a6, a7, a8, a9, a10, a11, a12, a13, a14, a15) = g at hG e e' ⊢
  generalize mt_cp (fun _ => 0) a13 18 = b13 at h13 e
  generalize mt_f12 a1 a2 W a12 18 = b12 at h12 e
  generalize mt_cp W a15 18 = b15 at h12 h15 e
  generalize f0 + 1 = g0 at e
  refine ⟨g, rfl, e', hG, ?_, ?_⟩
  · rw [e]
    exact mt_wt2 ⟨h1, h2, h5, Or.inr ⟨rfl, h13, h12, rfl⟩⟩
  · rw [e]
    exact h15
theorem mt_266 {t q : Nat} {x10 : Int64} {x12 : Int32} {e0 : Int32} {d1 d2 d3 d4 d5 d6 d7 d8 d9 d10 d11 d12 d13 d14 d15 : Nat → Int32} (ht : t < 18) (hq : q < 18) (hv : mt_I (e0, d1, d2, d3, d4, d5, d6, d7, d8, d9, d10, d11, d12, d13, d14, d15)) (hG : mt_G (e0, d1, d2, d3, d4, d5, d6, d7, d8, d9, d10, d11, d12, d13, d14, d15) = (f0, a1, a2, a3, a4, a5, a6, a7, a8, a9, a10, a11, a12, a13, a14, a15)) (e10 : mt_h a15 18 = x10) (e12 : a15 t = x12)
    (H : ∃ n, wL_law_406 post L xs J (nI t) (nI q) 0 (a15 q) x7 kc ks n 0 f0 a1 a2 a3 a4 a5 a6 a7 a8 a9 a10 a11 a12 a13 a14 a15 f0 a1 a2 a3 a4 a5 a6 a7 a8 a9 a10 a11 a12 a13 a14 a15) :
    ∀ m i, i + m = 18 → wL_law_266 post L xs J (nI t) (nI q) x7 x10 x12 kc ks f0 a1 a2 a3 a4 a5 a6 a7 a8 a9 a10 a11 a12 a13 a14 a15 e0 d1 d2 d3 d4 d5 d6 d7 d8 d9 d10 d11 d12 d13 d14 d15 (m + 1) (mt_h a15 i) (nI i) := by
  intro m
  induction m with
  | zero =>
    intro i hi
    have e : i = 18 := by omega
    subst e
    refine br_t (by decide) (br_t e10 (mt_value ht (br_t e12 (mt_value hq (mt_step (N := 1) (by omega) hv ?_)))))
    rw [mt_it1, hG]
    exact H
  | succ m ih =>
    intro i hi
    have hi' : i < 18 := by omega
    exact br_f (nI_ge (b := 18) hi' (by decide)) (mt_value hi' (nm_r (e' := mt_h a15 (i + 1)) rfl (nm_r (nI_1 i) (ih (i + 1) (by omega)))))
theorem mt_252 {t q : Nat} {z0 : Int32} {w W : Nat → Int32} (ht : t < 18) (hq : q < 18) (hI : mt_I (f0, a1, a2, a3, a4, a5, a6, a7, a8, a9, a10, a11, a12, a13, a14, a15)) (hw : mt_wt t q x5 x6 (f0, a1, a2, a3, a4, a5, a6, a7, a8, a9, a10, a11, a12, a13, a14, a15)) (hz : W t = z0) (hW : mt_W (f0, a1, a2, a3, a4, a5, a6, a7, a8, a9, a10, a11, a12, a13, a14, a15) = W) (hW' : mt_W (f0, a1, a2, a3, a4, a5, a6, a7, a8, a9, a10, a11, a12, a13, w, a15) = W)
    (H : ∀ (x5' x6' g0 : Int32) (b1 b2 b3 b4 b5 b6 b7 b8 b9 b10 b11 b12 b13 b14 b15 : Nat → Int32), mt_I (g0, b1, b2, b3, b4, b5, b6, b7, b8, b9, b10, b11, b12, b13, b14, b15) → mt_wt t q x5' x6' (g0, b1, b2, b3, b4, b5, b6, b7, b8, b9, b10, b11, b12, b13, b14, b15) → J x5' x6' (x7 + 2) g0 b1 b2 b3 b4 b5 b6 b7 b8 b9 b10 b11 b12 b13 b14 b15 g0 b1 b2 b3 b4 b5 b6 b7 b8 b9 b10 b11 b12 b13 b14 b15) :
    wL_law_252 post L xs J (nI t) (nI q) x7 (mt_h W 18) z0 kc ks f0 a1 a2 a3 a4 a5 a6 a7 a8 a9 a10 a11 a12 a13 w a15 f0 a1 a2 a3 a4 a5 a6 a7 a8 a9 a10 a11 a12 a13 a14 a15 := by
  obtain ⟨g, g1, g2, g3, g4, g5⟩ := mt_Gx ht hq hI hw hW
  have g2' := g2 w hW'
  have hI' : mt_I (f0, a1, a2, a3, a4, a5, a6, a7, a8, a9, a10, a11, a12, a13, w, a15) := mt_Iw hI w
  obtain ⟨g0, b1, b2, b3, b4, b5, b6, b7, b8, b9, b10, b11, b12, b13, b14, b15⟩ := g
  dsimp only at g4 g5
  unfold wL_law_252
  refine mt_step (N := 1) (by omega) hI' ?_
  rw [mt_it1, g2']
  exact ⟨19, mt_266 ht hq hI g1 (mt_hc g5) ((g5 t ht).trans hz) (mt_406e g3 (fun v => H 0 (b15 q) g0 b1 b2 b3 b4 b5 b6 b7 b8 b9 b10 b11 b12 b13 v b15 (mt_Iw g3 v) (mt_wtw g4 v))) 18 0 (by omega)⟩
theorem mt_211 {t q : Nat} {W : Nat → Int32} (ht : t < 18) (hq : q < 18) (hI : mt_I (f0, a1, a2, a3, a4, a5, a6, a7, a8, a9, a10, a11, a12, a13, a14, a15)) (hw : mt_wt t q x5 x6 (f0, a1, a2, a3, a4, a5, a6, a7, a8, a9, a10, a11, a12, a13, a14, a15)) (hW : mt_W (f0, a1, a2, a3, a4, a5, a6, a7, a8, a9, a10, a11, a12, a13, a14, a15) = W)
    (H : ∀ (x5' x6' g0 : Int32) (b1 b2 b3 b4 b5 b6 b7 b8 b9 b10 b11 b12 b13 b14 b15 : Nat → Int32), mt_I (g0, b1, b2, b3, b4, b5, b6, b7, b8, b9, b10, b11, b12, b13, b14, b15) → mt_wt t q x5' x6' (g0, b1, b2, b3, b4, b5, b6, b7, b8, b9, b10, b11, b12, b13, b14, b15) → J x5' x6' (x7 + 2) g0 b1 b2 b3 b4 b5 b6 b7 b8 b9 b10 b11 b12 b13 b14 b15 g0 b1 b2 b3 b4 b5 b6 b7 b8 b9 b10 b11 b12 b13 b14 b15) :
    ∀ m i, i + m = 18 → ∀ w : Nat → Int32, mt_W (f0, a1, a2, a3, a4, a5, a6, a7, a8, a9, a10, a11, a12, a13, w, a15) = W → wL_law_211 post L xs J (nI t) (nI q) x5 x6 x7 kc ks (m + 1) (mt_h W i) (nI i) f0 a1 a2 a3 a4 a5 a6 a7 a8 a9 a10 a11 a12 a13 w a15 f0 a1 a2 a3 a4 a5 a6 a7 a8 a9 a10 a11 a12 a13 a14 a15 := by
  intro m
  induction m with
  | zero =>
    intro i hi w hW'
    have e : i = 18 := by omega
    subst e
    have hw' := hw
    obtain ⟨h1, h2, h5, h⟩ := mt_wt1 hw
    have hp : W t = mt_mem a5 a12 a13 t := by rw [← hW]; exact mt_Wpre hI ht h1
    refine br_t (by decide) ?_
    rcases h with ⟨n5, n13⟩ | ⟨e5, e13, e12, e6⟩
    · exact br_f n5 (mt_252 ht hq hI hw' (hp.trans (by unfold mt_mem; rw [if_neg n13, h5])) hW hW' H)
    · exact br_t e5 (mt_252 ht hq hI hw' (hp.trans (by unfold mt_mem; rw [if_pos e13, e12, e6])) hW hW' H)
  | succ m ih =>
    intro i hi w hW'
    have hi' : i < 18 := by omega
    have hI' : mt_I (f0, a1, a2, a3, a4, a5, a6, a7, a8, a9, a10, a11, a12, a13, w, a15) := mt_Iw hI w
    have hX : mt_W (f0, a1, a2, a3, a4, a5, a6, a7, a8, a9, a10, a11, a12, a13, W, a15) = W := by
      have := mt_WW hI'
      rw [hW'] at this
      exact this
    exact br_f (nI_ge (b := 18) hi' (by decide)) (mt_nextE hi' hI' hW' (nm_r (e' := mt_h W (i + 1)) rfl (nm_r (nI_1 i) (ih (i + 1) (by omega) _ hX))))
theorem mt_211e {t q : Nat} (ht : t < 18) (hq : q < 18) (hI : mt_I (f0, a1, a2, a3, a4, a5, a6, a7, a8, a9, a10, a11, a12, a13, a14, a15)) (hw : mt_wt t q x5 x6 (f0, a1, a2, a3, a4, a5, a6, a7, a8, a9, a10, a11, a12, a13, a14, a15))
    (H : ∀ (x5' x6' g0 : Int32) (b1 b2 b3 b4 b5 b6 b7 b8 b9 b10 b11 b12 b13 b14 b15 : Nat → Int32), mt_I (g0, b1, b2, b3, b4, b5, b6, b7, b8, b9, b10, b11, b12, b13, b14, b15) → mt_wt t q x5' x6' (g0, b1, b2, b3, b4, b5, b6, b7, b8, b9, b10, b11, b12, b13, b14, b15) → J x5' x6' (x7 + 2) g0 b1 b2 b3 b4 b5 b6 b7 b8 b9 b10 b11 b12 b13 b14 b15 g0 b1 b2 b3 b4 b5 b6 b7 b8 b9 b10 b11 b12 b13 b14 b15) :
    ∃ n, wL_law_211 post L xs J (nI t) (nI q) x5 x6 x7 kc ks n 0 0 f0 a1 a2 a3 a4 a5 a6 a7 a8 a9 a10 a11 a12 a13 a14 a15 f0 a1 a2 a3 a4 a5 a6 a7 a8 a9 a10 a11 a12 a13 a14 a15 := ⟨19, mt_211 ht hq hI hw rfl H 18 0 (by omega) a14 rfl⟩
end
end
section
section
variable {f0 : Int32} {a1 a2 a3 a4 a5 a6 a7 a8 a9 a10 a11 a12 a13 a14 a15 : Nat → Int32}
/-! ===== a definition, as the law makes it ===== -/
theorem mt_rm {z : Int32} {n : Nat} (e : z = nI n) (h : n < 2 ^ 31) : z - z / 18 * 18 = nI (n % 18) := by
  rw [e]
  exact pk_rem (d := 18) h (by omega) (by omega)
theorem mt_rm9 {z : Int32} {n : Nat} (e : z = nI n) (h : n < 2 ^ 31) : z - z / 9 * 9 = nI (n % 9) := by
  rw [e]
  exact pk_rem (d := 9) h (by omega) (by omega)
theorem mt_pk {a b s : Nat} (ha : a < 18) (hb : b < 18) (hs : s < 18) : nI a + 32 * nI b + 1024 * nI s = nI (a + 32 * b + 1024 * s) := by
  have e1 : 32 * nI b = nI (32 * b) := pk_mul 32 b
  have e2 : 1024 * nI s = nI (1024 * s) := pk_mul 1024 s
  rw [e1, e2, nI_add, nI_add]
theorem mt_p5 {a b s : Nat} (ha : a < 18) (hb : b < 18) (hs : s < 18) : nI (a + 32 * b + 1024 * s) &&& 31 = nI a ∧ (nI (a + 32 * b + 1024 * s) >>> ((5 : Int32) &&& 31)) &&& 31 = nI b ∧ (nI (a + 32 * b + 1024 * s) >>> ((10 : Int32) &&& 31)) &&& 31 = nI s := by
  refine ⟨?_, ?_, ?_⟩
  · rw [pk_andN (by omega) (m := 31) 5 (by decide), show (a + 32 * b + 1024 * s) % 2 ^ 5 = a by omega]
  · rw [pk_shrN (by omega) ((5 : Int32) &&& 31) 5 (by decide), pk_andN (by omega) (m := 31) 5 (by decide), show (a + 32 * b + 1024 * s) / 2 ^ 5 % 2 ^ 5 = b by omega]
  · rw [pk_shrN (by omega) ((10 : Int32) &&& 31) 10 (by decide), pk_andN (by omega) (m := 31) 5 (by decide), show (a + 32 * b + 1024 * s) / 2 ^ 10 % 2 ^ 5 = s by omega]
theorem mt_defE {f k a b s : Nat} {c : Int32} (hI : mt_I (f0, a1, a2, a3, a4, a5, a6, a7, a8, a9, a10, a11, a12, a13, a14, a15)) (hf : f < 18) (hk : k ≤ 8) (ha : a < 18) (hb : b < 18) (hs : s < 18) :
    ∃ (r : Int32) (v : St1), mt_I v ∧ mt_kp f (f0, a1, a2, a3, a4, a5, a6, a7, a8, a9, a10, a11, a12, a13, a14, a15) v ∧ (k = 7 → mt_s7 f a c v) ∧ ∀ post : Int32 → St1 → Prop, post r v → wpX_define post (f0, a1, a2, a3, a4, a5, a6, a7, a8, a9, a10, a11, a12, a13, a14, a15) (nI f) (nI k) (nI (a + 32 * b + 1024 * s)) c := by
  obtain ⟨e5, e6, e7⟩ := mt_p5 ha hb hs
  obtain ⟨⟨r, v⟩, ⟨h1, h2, h3⟩, k⟩ := mt_def (c := c) hI hf hk ha hb hs e5 e6 e7
  exact ⟨r, v, h1, h2, h3, fun post hp => k (fun p => post p.1 p.2) hp⟩
theorem mt_ldef {x y : Int32} (hI : mt_I (f0, a1, a2, a3, a4, a5, a6, a7, a8, a9, a10, a11, a12, a13, a14, a15)) :
    ∃ f, f < 18 ∧ (x &&& 255) - (x &&& 255) / 18 * 18 = nI f ∧ ∃ (r : Int32) (v : St1), mt_I v ∧ mt_kp f (f0, a1, a2, a3, a4, a5, a6, a7, a8, a9, a10, a11, a12, a13, a14, a15) v ∧ ∀ post : Int32 → St1 → Prop, post r v → wpL_define post (f0, a1, a2, a3, a4, a5, a6, a7, a8, a9, a10, a11, a12, a13, a14, a15) x y := by
  obtain ⟨n1, h1, e1⟩ := pk_andE x (m := 255) 8 (by decide)
  obtain ⟨n2, h2, e2⟩ := pk_andE (x >>> ((8 : Int32) &&& 31)) (m := 255) 8 (by decide)
  obtain ⟨n3, h3, e3⟩ := pk_andE y (m := 255) 8 (by decide)
  obtain ⟨n4, h4, e4⟩ := pk_andE (y >>> ((8 : Int32) &&& 31)) (m := 255) 8 (by decide)
  obtain ⟨n5, h5, e5⟩ := pk_andE (y >>> ((16 : Int32) &&& 31)) (m := 255) 8 (by decide)
  have a3 : n3 % 18 < 18 := Nat.mod_lt _ (by omega)
  have a4' : n4 % 18 < 18 := Nat.mod_lt _ (by omega)
  have a5' : n5 % 18 < 18 := Nat.mod_lt _ (by omega)
  obtain ⟨r, v, k1, k2, k3, k4⟩ := mt_defE (k := n2 % 9) (c := (x >>> ((16 : Int32) &&& 31)) &&& 7) hI (show n1 % 18 < 18 from Nat.mod_lt _ (by omega)) (by omega) a3 a4' a5'
  refine ⟨n1 % 18, Nat.mod_lt _ (by omega), mt_rm e1 (by omega), r, v, k1, k2, fun post hp => ?_⟩
  refine And.intro (by decide) (nm_r (mt_rm e1 (by omega)) (And.intro (by decide) (nm_r (mt_rm9 e2 (by omega)) (And.intro (by decide) (nm_r (mt_rm e3 (by omega)) (And.intro (by decide) (nm_r (mt_rm e4 (by omega)) (And.intro (by decide) (nm_r (mt_rm e5 (by omega)) ?_)))))))))
  rw [mt_pk a3 a4' a5']
  exact k4 _ hp
theorem mt_wtK {t q f : Nat} {x5 x6 : Int32} {u v : St1} (h : mt_kp f u v) (ne : t ≠ f) (hw : mt_wt t q x5 x6 u) : mt_wt t q x5 x6 v := by
  obtain ⟨f0, a1, a2, a3, a4, a5, a6, a7, a8, a9, a10, a11, a12, a13, a14, a15⟩ := u
  obtain ⟨g0, b1, b2, b3, b4, b5, b6, b7, b8, b9, b10, b11, b12, b13, b14, b15⟩ := v
  obtain ⟨_, k, e12, e15⟩ := h
  obtain ⟨k1, k2, k5, k13⟩ := k t ne
  obtain ⟨h1, h2, h5, h⟩ := hw
  subst e12
  subst e15
  refine ⟨k1.trans h1, k2.trans h2, k5.trans h5, ?_⟩
  show (¬ x5 = 0 ∧ ¬ b13 t = 0) ∨ (x5 = 0 ∧ b13 t = 0 ∧ b12 t = b15 q ∧ x6 = b15 q)
  rw [k13]
  exact h
/-- the watched flow behind n instants -/
theorem mt_wtN {t q : Nat} (n : Nat) {x5 x6 : Int32} (ht : t < 18) (hq : q < 18) {u : St1} (hI : mt_I u) (hw : mt_wt t q x5 x6 u) : mt_I (mt_it n u) ∧ ∃ y5 y6, mt_wt t q y5 y6 (mt_it n u) ∧ (n = 0 → y5 = x5 ∧ y6 = x6) ∧ (¬ n = 0 → y5 = 0 ∧ y6 = (mt_it n u).2.2.2.2.2.2.2.2.2.2.2.2.2.2.2 q) := by
  induction n with
  | zero => exact ⟨hI, x5, x6, hw, fun _ => ⟨rfl, rfl⟩, fun h => absurd rfl h⟩
  | succ n ih =>
    rw [mt_itS]
    obtain ⟨jI, y5, y6, jw, _⟩ := ih
    generalize mt_it n u = v at jI jw ⊢
    obtain ⟨f0, a1, a2, a3, a4, a5, a6, a7, a8, a9, a10, a11, a12, a13, a14, a15⟩ := v
    obtain ⟨g, g1, _, g3, g4, _⟩ := mt_Gx ht hq jI jw rfl
    rw [g1]
    exact ⟨g3, 0, _, g4, fun h => absurd h (by omega), fun _ => ⟨rfl, rfl⟩⟩
end
end
section
section
variable {f0 : Int32} {a1 a2 a3 a4 a5 a6 a7 a8 a9 a10 a11 a12 a13 a14 a15 : Nat → Int32}
theorem mt_392 {post : Int32 → Prop} {L : Nat} {xs : Nat → Int32} {J : (Int32 → Int32 → Int32 → Int32 → (Nat → Int32) → (Nat → Int32) → (Nat → Int32) → (Nat → Int32) → (Nat → Int32) → (Nat → Int32) → (Nat → Int32) → (Nat → Int32) → (Nat → Int32) → (Nat → Int32) → (Nat → Int32) → (Nat → Int32) → (Nat → Int32) → (Nat → Int32) → (Nat → Int32) → Int32 → (Nat → Int32) → (Nat → Int32) → (Nat → Int32) → (Nat → Int32) → (Nat → Int32) → (Nat → Int32) → (Nat → Int32) → (Nat → Int32) → (Nat → Int32) → (Nat → Int32) → (Nat → Int32) → (Nat → Int32) → (Nat → Int32) → (Nat → Int32) → (Nat → Int32) → Prop)} {x3 x7 : Int32} {kc ks : Nat} {q : Nat} (hq : q < 18) (hI : mt_I (f0, a1, a2, a3, a4, a5, a6, a7, a8, a9, a10, a11, a12, a13, a14, a15)) (H : ∀ w : Nat → Int32, J 0 (a15 q) (x7 + 2) f0 a1 a2 a3 a4 a5 a6 a7 a8 a9 a10 a11 a12 a13 w a15 f0 a1 a2 a3 a4 a5 a6 a7 a8 a9 a10 a11 a12 a13 w a15) :
    wL_law_392 post L xs J x3 (nI q) x7 kc ks f0 a1 a2 a3 a4 a5 a6 a7 a8 a9 a10 a11 a12 a13 a14 a15 f0 a1 a2 a3 a4 a5 a6 a7 a8 a9 a10 a11 a12 a13 a14 a15 := by
  unfold wL_law_392
  exact mt_393 hq hI H
/-! ===== the law's loop ===== -/
theorem mt_89 {L : Nat} {xs : Nat → Int32} {kc ks t q : Nat} (ht : t < 18) (hq : q < 18) (hL : L ≤ 260) : ∀ m k, L ≤ k + 2 * m + 1 → k ≤ L + 2 → ∀ (x5 x6 : Int32) (f0 : Int32) (a1 a2 a3 a4 a5 a6 a7 a8 a9 a10 a11 a12 a13 a14 a15 : Nat → Int32), mt_I (f0, a1, a2, a3, a4, a5, a6, a7, a8, a9, a10, a11, a12, a13, a14, a15) → mt_wt t q x5 x6 (f0, a1, a2, a3, a4, a5, a6, a7, a8, a9, a10, a11, a12, a13, a14, a15) →
    wL_law_89 (fun r => r = 1) L xs (nI t) (nI q) kc ks (m + 1) x5 x6 (nI k) f0 a1 a2 a3 a4 a5 a6 a7 a8 a9 a10 a11 a12 a13 a14 a15 f0 a1 a2 a3 a4 a5 a6 a7 a8 a9 a10 a11 a12 a13 a14 a15 := by
  intro m
  induction m with
  | zero =>
    intro k h hk x5 x6 f0 a1 a2 a3 a4 a5 a6 a7 a8 a9 a10 a11 a12 a13 a14 a15 hI hw
    exact pk_le L (k + 1) (fun _ => br_t rfl rfl) (fun z => absurd z (by omega)) rfl (nI_1 k) (by omega) (by omega)
  | succ m ih =>
    intro k h hk x5 x6 f0 a1 a2 a3 a4 a5 a6 a7 a8 a9 a10 a11 a12 a13 a14 a15 hI hw
    rw [wL_law_89.eq_2]
    refine pk_le L (k + 1) (fun _ => br_t rfl rfl) (fun z => ?_) rfl (nI_1 k) (by omega) (by omega)
    have H : ∀ (x5' x6' g0 : Int32) (b1 b2 b3 b4 b5 b6 b7 b8 b9 b10 b11 b12 b13 b14 b15 : Nat → Int32), mt_I (g0, b1, b2, b3, b4, b5, b6, b7, b8, b9, b10, b11, b12, b13, b14, b15) → mt_wt t q x5' x6' (g0, b1, b2, b3, b4, b5, b6, b7, b8, b9, b10, b11, b12, b13, b14, b15) →
        wL_law_89 (fun r => r = 1) L xs (nI t) (nI q) kc ks (m + 1) x5' x6' (nI k + 2) g0 b1 b2 b3 b4 b5 b6 b7 b8 b9 b10 b11 b12 b13 b14 b15 g0 b1 b2 b3 b4 b5 b6 b7 b8 b9 b10 b11 b12 b13 b14 b15 := by
      intro x5' x6' g0 b1 b2 b3 b4 b5 b6 b7 b8 b9 b10 b11 b12 b13 b14 b15 hv hwv
      rw [show nI k + 2 = nI (k + 2) from nI_add k 2]
      exact ih (k + 2) (by omega) (by omega) x5' x6' g0 b1 b2 b3 b4 b5 b6 b7 b8 b9 b10 b11 b12 b13 b14 b15 hv hwv
    generalize wL_law_89 (fun r => r = 1) L xs (nI t) (nI q) kc ks (m + 1) = J at H ⊢
    have i0 : vp_in (nI k) L := pk_in k L (by omega)
    have i1 : vp_in (nI k + 1) L := pk_in (k + 1) L (by omega) (nI_1 k)
    obtain ⟨s, hs, es⟩ := pk_andE (xs (nI k).toNatClampNeg) (m := 7) 3 (by decide)
    have E : ∃ n, wL_law_406 (fun r => r = 1) L xs J (nI t) (nI q) x5 x6 (nI k) kc ks n 0 f0 a1 a2 a3 a4 a5 a6 a7 a8 a9 a10 a11 a12 a13 a14 a15 f0 a1 a2 a3 a4 a5 a6 a7 a8 a9 a10 a11 a12 a13 a14 a15 := mt_406e hI (fun w => H x5 x6 f0 a1 a2 a3 a4 a5 a6 a7 a8 a9 a10 a11 a12 a13 w a15 (mt_Iw hI w) (mt_wtw hw w))
    refine ⟨i0, nm_r es ⟨i0, fun x9 e9 => ?_⟩⟩
    refine pk_le 4 s (fun z4 => ?_) (fun z4 => ?_)
    · refine pk_eq s 4 (fun _ => And.intro i1 (mt_input (fun r => And.intro i1 (mt_input (fun r => ?_))))) (fun n4 => pk_le 7 s (fun z7 => ?_) (fun z7 => ?_))
      · have hI2 := mt_Ii hI (upd a11 (x9 &&& 3).toNatClampNeg (xs (nI k + 1).toNatClampNeg))
        have hw2 := mt_wti hw (upd a11 (x9 &&& 3).toNatClampNeg (xs (nI k + 1).toNatClampNeg))
        exact mt_406e hI2 (fun w => H _ _ _ _ _ _ _ _ _ _ _ _ _ _ _ _ w _ (mt_Iw hI2 w) (mt_wtw hw2 w))
      · obtain ⟨n, hn, en⟩ := pk_andE x9 (m := 7) 3 (by decide)
        obtain ⟨p, hp, ep⟩ := pk_andE (x9 >>> ((3 : Int32) &&& 31)) (m := 7) 3 (by decide)
        refine nm_r en (nm_r ep (mt_step (N := n) (by omega) hI ?_))
        have v1 := mt_itI (n := n) hI
        obtain ⟨v2, y5, y6, w3, w4, w5⟩ := mt_wtN (n + p) ht hq hI hw
        have h3 := mt_itA n p (f0, a1, a2, a3, a4, a5, a6, a7, a8, a9, a10, a11, a12, a13, a14, a15)
        generalize mt_it n (f0, a1, a2, a3, a4, a5, a6, a7, a8, a9, a10, a11, a12, a13, a14, a15) = c at v1 h3 ⊢
        obtain ⟨c0, c1, c2, c3, c4, c5, c6, c7, c8, c9, c10, c11, c12, c13, c14, c15⟩ := c
        refine mt_step (N := p) (by omega) v1 ?_
        rw [h3]
        have h4 : ∃ g, mt_it (n + p) (f0, a1, a2, a3, a4, a5, a6, a7, a8, a9, a10, a11, a12, a13, a14, a15) = g := ⟨_, rfl⟩
        obtain ⟨g, h4⟩ := h4
        rw [h4] at v2 w3 w5 ⊢
        obtain ⟨g0, b1, b2, b3, b4, b5, b6, b7, b8, b9, b10, b11, b12, b13, b14, b15⟩ := g
        dsimp only at w5 ⊢
        rw [nI_add n p]
        refine mt_step (N := n + p) (by omega) hI ?_
        rw [h4]
        obtain ⟨k1, k2, k5, kk⟩ := mt_wt1 w3
        have R0 : b13 t = 0 ∧ b12 t = b15 q → wL_law_392 (fun r => r = 1) L xs J (nI t) (nI q) (nI k) kc ks g0 b1 b2 b3 b4 b5 b6 b7 b8 b9 b10 b11 b12 b13 b14 b15 g0 b1 b2 b3 b4 b5 b6 b7 b8 b9 b10 b11 b12 b13 b14 b15 := fun hh =>
          mt_392 hq v2 (fun w => H 0 (b15 q) g0 b1 b2 b3 b4 b5 b6 b7 b8 b9 b10 b11 b12 b13 w b15 (mt_Iw v2 w) (mt_wt2 ⟨k1, k2, k5, Or.inr ⟨rfl, hh.1, hh.2, rfl⟩⟩))
        have R1 : ¬ b13 t = 0 → wL_law_393 (fun r => r = 1) L xs J (nI t) (nI q) (nI k) 1 kc ks g0 b1 b2 b3 b4 b5 b6 b7 b8 b9 b10 b11 b12 b13 b14 b15 g0 b1 b2 b3 b4 b5 b6 b7 b8 b9 b10 b11 b12 b13 b14 b15 := fun hh =>
          mt_393 hq v2 (fun w => H 1 (b15 q) g0 b1 b2 b3 b4 b5 b6 b7 b8 b9 b10 b11 b12 b13 w b15 (mt_Iw v2 w) (mt_wt2 ⟨k1, k2, k5, Or.inl ⟨by decide, hh⟩⟩))
        by_cases sz : n + p = 0
        · obtain ⟨e5, e6⟩ := w4 sz
          rw [e5, e6] at kk
          rcases kk with ⟨n5, n13⟩ | ⟨z5, z13, z12, _⟩
          · exact br_f n5 (br_t (by rw [sz]; rfl) (R1 n13))
          · exact br_t z5 (R0 ⟨z13, z12⟩)
        · obtain ⟨e5, e6⟩ := w5 sz
          rw [e5] at kk
          rcases kk with ⟨n5, n13⟩ | ⟨z5, z13, z12, _⟩
          · exact absurd rfl n5
          · exact br_c (fun _ => R0 ⟨z13, z12⟩) (fun _ => br_f (nI_ne0 (by omega) (by omega)) (R0 ⟨z13, z12⟩))
      · exact mt_211e ht hq hI hw H
    · obtain ⟨f, hf, ef, r, v, hv, hkp, kk⟩ := mt_ldef (x := x9) (y := xs (nI k + 1).toNatClampNeg) hI
      refine ⟨by decide, br_c (fun _ => E) (fun ne => And.intro i1 (kk _ ?_))⟩
      have hw2 := mt_wtK hkp (fun z => ne (by rw [ef, z])) hw
      obtain ⟨g0, b1, b2, b3, b4, b5, b6, b7, b8, b9, b10, b11, b12, b13, b14, b15⟩ := v
      exact And.intro i1 (kk _ (mt_406e hv (fun w => H x5 x6 g0 b1 b2 b3 b4 b5 b6 b7 b8 b9 b10 b11 b12 b13 w b15 (mt_Iw hv w) (mt_wtw hw2 w))))
end
end
section
section
variable {f0 : Int32} {a1 a2 a3 a4 a5 a6 a7 a8 a9 a10 a11 a12 a13 a14 a15 : Nat → Int32}
theorem mt_cell {L : Nat} {xs : Nat → Int32} {u : St2} (hL : L ≤ 260) (j : Nat) (hj : j < 260) : mt_d (fun _ => True) (fun post => wpL_cell post L xs u (nI j)) := by
  by_cases h : L ≤ j
  · exact mt_bt (nI_le h (by omega)) (mt_rt trivial)
  · exact mt_bf (nI_ge (by omega) (by omega)) (mt_an (vp_in_nI (by omega) (by omega)) (mt_rt trivial))
/-- both are told of the watched flow, then the turns -/
theorem mt_56 {L : Nat} {xs : Nat → Int32} {kc ks t q : Nat} (ht : t < 18) (hq : q < 18) (hL : L ≤ 260) (hI : mt_I (f0, a1, a2, a3, a4, a5, a6, a7, a8, a9, a10, a11, a12, a13, a14, a15)) : wL_law_56 (fun r => r = 1) L xs (nI t) (nI q) kc ks f0 a1 a2 a3 a4 a5 a6 a7 a8 a9 a10 a11 a12 a13 a14 a15 f0 a1 a2 a3 a4 a5 a6 a7 a8 a9 a10 a11 a12 a13 a14 a15 := by
  obtain ⟨r, v, hv, _, h7, kk⟩ := mt_defE (f := t) (k := 7) (a := q) (b := 0) (s := 0) (c := 9) hI ht (by omega) hq (by omega) (by omega)
  rw [show q + 32 * 0 + 1024 * 0 = q by omega] at kk
  have h7' := h7 rfl
  obtain ⟨g0, b1, b2, b3, b4, b5, b6, b7, b8, b9, b10, b11, b12, b13, b14, b15⟩ := v
  have h8 : b1 t = 7 ∧ b2 t = nI q ∧ b5 t = 9 ∧ b13 t = 1 := h7'
  obtain ⟨k1, k2, k5, k13⟩ := h8
  unfold wL_law_56
  refine kk _ (kk _ ⟨L + 1, ?_⟩)
  exact mt_89 ht hq hL L 2 (by omega) (by omega) 1 0 g0 b1 b2 b3 b4 b5 b6 b7 b8 b9 b10 b11 b12 b13 b14 b15 hv (mt_wt2 ⟨k1, k2, k5, Or.inl ⟨by decide, by rw [k13]; decide⟩⟩)
end
theorem i_vc (xs : Nat → Int32) (L : Nat) (hL : L ≤ 260) : wpL_law (fun r => r = 1) L xs := by
  obtain ⟨v, hv, kI⟩ := mt_init
  obtain ⟨r0, _, k0⟩ := mt_cell (xs := xs) (u := ()) hL 0 (by omega)
  obtain ⟨r1, _, k1⟩ := mt_cell (xs := xs) (u := ()) hL 1 (by omega)
  obtain ⟨n0, h0, e0⟩ := pk_andE r0 (m := 2147483647) 31 (by decide)
  obtain ⟨n1, h1, e1⟩ := pk_andE r1 (m := 2147483647) 31 (by decide)
  obtain ⟨g0, b1, b2, b3, b4, b5, b6, b7, b8, b9, b10, b11, b12, b13, b14, b15⟩ := v
  have t0 : n0 % 18 < 18 := Nat.mod_lt _ (by omega)
  have t1 : n1 % 18 < 18 := Nat.mod_lt _ (by omega)
  refine ⟨15, 256, by omega, by omega, kI _ ⟨by omega, by omega, 15, 256, by omega, by omega, kI _ (k0 _ ⟨by decide, nm_r (mt_rm e0 h0) (k1 _ ⟨by decide, nm_r (mt_rm e1 h1) (br_c (fun _ => ⟨by decide, nm_r (mt_rm (nI_1 _) (by omega)) ?_⟩) (fun _ => ?_))⟩)⟩)⟩⟩
  · exact mt_56 t0 (Nat.mod_lt _ (by omega)) hL hv
  · exact mt_56 t0 t1 hL hv
end
