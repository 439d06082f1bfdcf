section
/-! ===== bits of an Int32 (the family 'Int32 by its bits' of the kit's BITS.to-paste, renamed, and more) ===== -/
def zb_t (x : Int32) (i : Nat) : Bool := x.toBitVec.getLsbD i
theorem zb_ext {x y : Int32} (h : ∀ i, i < 32 → zb_t x i = zb_t y i) : x = y := Int32.toBitVec_inj.mp (BitVec.eq_of_getLsbD_eq (fun i hi => h i hi))
theorem zb_or (x y : Int32) (i : Nat) : zb_t (x ||| y) i = (zb_t x i || zb_t y i) := by unfold zb_t; rw [Int32.toBitVec_or, BitVec.getLsbD_or]
theorem zb_and (x y : Int32) (i : Nat) : zb_t (x &&& y) i = (zb_t x i && zb_t y i) := by unfold zb_t; rw [Int32.toBitVec_and, BitVec.getLsbD_and]
theorem zb_xor (x y : Int32) (i : Nat) : zb_t (x ^^^ y) i = (zb_t x i ^^ zb_t y i) := by unfold zb_t; rw [Int32.toBitVec_xor, BitVec.getLsbD_xor]
theorem zb_big {x : Int32} {i : Nat} (h : 32 ≤ i) : zb_t x i = false := BitVec.getLsbD_of_ge _ _ h
theorem zb_255 (i : Nat) : zb_t 255 i = decide (i < 8) := by
  rcases Nat.lt_or_ge i 32 with h | h
  · exact (by decide +kernel : ∀ i, i < 32 → zb_t 255 i = decide (i < 8)) i h
  · rw [zb_big h, decide_eq_false (by omega)]
theorem zb_1 (i : Nat) : zb_t 1 i = decide (i = 0) := by
  rcases Nat.lt_or_ge i 32 with h | h
  · exact (by decide +kernel : ∀ i, i < 32 → zb_t 1 i = decide (i = 0)) i h
  · rw [zb_big h, decide_eq_false (by omega)]
theorem zb_m1 : ∀ i, i < 32 → zb_t (-1) i = true := by decide +kernel
theorem zb_0 (i : Nat) : zb_t 0 i = false := BitVec.getLsbD_zero
theorem zb_sl : ∀ n, n < 32 → ((nI n &&& 31).toBitVec.smod 32).toNat = n := by decide +kernel
theorem zb_shl (n : Nat) (hn : n < 32) (x : Int32) {i : Nat} (hi : i < 32) : zb_t (x <<< (nI n &&& 31)) i = (decide (n ≤ i) && zb_t x (i - n)) := by
  unfold zb_t
  rw [Int32.toBitVec_shiftLeft]
  show (x.toBitVec <<< ((nI n &&& 31).toBitVec.smod 32).toNat).getLsbD i = _
  rw [zb_sl n hn, BitVec.getLsbD_shiftLeft]
  rcases Nat.lt_or_ge i n with h | h
  · simp [h, Nat.not_le.mpr h]
  · simp [hi, h, Nat.not_lt.mpr h]
theorem zb_sshr (n : Nat) (hn : n < 32) (x : Int32) {i : Nat} (hi : i < 32) : zb_t (x >>> (nI n &&& 31)) i = if n + i < 32 then zb_t x (n + i) else zb_t x 31 := by
  unfold zb_t
  rw [Int32.toBitVec_shiftRight]
  show (x.toBitVec.sshiftRight ((nI n &&& 31).toBitVec.smod 32).toNat).getLsbD i = _
  rw [zb_sl n hn, BitVec.getLsbD_sshiftRight, BitVec.msb_eq_getLsbD_last]
  simp [hi]
/-- the tested bit -/
theorem zb_tst (x : Int32) {k : Nat} (hk : k < 32) : (x >>> (nI k &&& 31)) &&& 1 = if zb_t x k = true then 1 else 0 := by
  apply zb_ext
  intro i hi
  rw [zb_and, zb_sshr k hk x hi, zb_1]
  by_cases h0 : i = 0
  · subst h0
    rw [if_pos (show k + 0 < 32 by omega), Nat.add_zero]
    cases zb_t x k
    · decide
    · decide
  · rw [decide_eq_false h0, Bool.and_false]
    cases zb_t x k
    · exact (zb_0 i).symm
    · show false = zb_t 1 i
      rw [zb_1, decide_eq_false h0]
theorem zb_t0 {x : Int32} {k : Nat} (hk : k < 32) : ((x >>> (nI k &&& 31)) &&& 1) = 0 ↔ zb_t x k = false := by
  rw [zb_tst x hk]
  cases zb_t x k
  · exact ⟨fun _ => rfl, fun _ => rfl⟩
  · exact ⟨fun h => absurd h (by decide), fun h => absurd h (by decide)⟩
theorem zb_t1 {x : Int32} {k : Nat} (hk : k < 32) : ((x >>> (nI k &&& 31)) &&& 1) = 1 ↔ zb_t x k = true := by
  rw [zb_tst x hk]
  cases zb_t x k
  · exact ⟨fun h => absurd h (by decide), fun h => absurd h (by decide)⟩
  · exact ⟨fun _ => rfl, fun _ => rfl⟩
theorem zb_n0 {x : Int32} {k : Nat} (hk : k < 32) : ¬ ((x >>> (nI k &&& 31)) &&& 1) = 0 ↔ zb_t x k = true := by
  rw [zb_t0 hk, Bool.not_eq_false]
theorem zb_set (x : Int32) {k : Nat} (hk : k < 32) (i : Nat) : zb_t (x ||| ((1 : Int32) <<< (nI k &&& 31))) i = (zb_t x i || decide (i = k)) := by
  rw [zb_or]
  congr 1
  rcases Nat.lt_or_ge i 32 with h | h
  · rw [zb_shl k hk 1 h, zb_1, ← Bool.decide_and]
    exact decide_eq_decide.mpr (by omega)
  · rw [zb_big h, decide_eq_false (by omega)]
theorem zb_one {k : Nat} (hk : k < 32) (i : Nat) : zb_t ((1 : Int32) <<< (nI k &&& 31)) i = decide (i = k) := by
  rcases Nat.lt_or_ge i 32 with h | h
  · rw [zb_shl k hk 1 h, zb_1, ← Bool.decide_and]
    exact decide_eq_decide.mpr (by omega)
  · rw [zb_big h, decide_eq_false (by omega)]
def zb_sm (x : Int32) (m : Nat) : Prop := ∀ i, m ≤ i → zb_t x i = false
theorem zb_eN (x : Int32) : x = nI x.toBitVec.toNat := by
  apply Int32.toBitVec_inj.1
  show x.toBitVec = BitVec.ofNat 32 x.toBitVec.toNat
  simp
theorem zb_smN {x : Int32} (h : zb_sm x 8) : ∃ k, k < 256 ∧ x = nI k :=
  ⟨x.toBitVec.toNat, Nat.lt_pow_two_of_testBit (n := 8) _ (fun i hi => h i hi), zb_eN x⟩
theorem zb_k16 : ∀ k, k < 1024 → (nI k).toInt16.toInt32 = nI k := by decide +kernel
theorem zb_k8 : ∀ k, k < 128 → (nI k).toInt8.toInt32 = nI k := by decide +kernel
theorem zb_16 {x : Int32} (h : zb_sm x 8) : x.toInt16.toInt32 = x := by
  obtain ⟨k, hk, rfl⟩ := zb_smN h
  exact zb_k16 k (by omega)
theorem zb_n8 {k : Nat} (h : k < 128) : vp_nar .byte (nI k) = nI k := by rw [vp_nar_byte, zb_k8 k h]
theorem zb_n16 {k : Nat} (h : k < 1024) : vp_nar .short (nI k) = nI k := by rw [vp_nar_short, zb_k16 k h]
theorem zb_ne1 {p : Nat} (h : p < 2 ^ 31) : ¬ nI p = -1 := fun e => nI_pos h (by rw [e]; decide)
theorem zb_m1lt : (-1 : Int32) < 0 := by decide
theorem zb_tf {b : Bool} (h : ¬ b = true) : b = false := Bool.eq_false_iff.mpr h
theorem zb_ft {b : Bool} (h : ¬ b = false) : b = true := Bool.not_eq_false _ ▸ h
/-! ===== counting ===== -/
def zc_n (p : Nat → Bool) : Nat → Nat
  | 0 => 0
  | k + 1 => zc_n p k + (if p k = true then 1 else 0)
theorem zc_le (p : Nat → Bool) (k : Nat) : zc_n p k ≤ k := by
  induction k with
  | zero => exact Nat.le_refl 0
  | succ k ih =>
    show zc_n p k + (if p k = true then 1 else 0) ≤ k + 1
    split <;> omega
theorem zc_cg {p q : Nat → Bool} {k : Nat} (h : ∀ i, i < k → p i = q i) : zc_n p k = zc_n q k := by
  induction k with
  | zero => rfl
  | succ k ih =>
    show zc_n p k + (if p k = true then 1 else 0) = zc_n q k + (if q k = true then 1 else 0)
    rw [ih (fun i hi => h i (by omega)), h k (by omega)]
theorem zc_z {p : Nat → Bool} {k : Nat} (h : ∀ i, i < k → p i = false) : zc_n p k = 0 := by
  induction k with
  | zero => rfl
  | succ k ih =>
    show zc_n p k + (if p k = true then 1 else 0) = 0
    rw [ih (fun i hi => h i (by omega)), h k (by omega)]
    rfl
theorem zc_set {p : Nat → Bool} {c k : Nat} (hc : c < k) (h : p c = false) : zc_n (fun i => p i || decide (i = c)) k = zc_n p k + 1 := by
  induction k with
  | zero => omega
  | succ k ih =>
    show zc_n (fun i => p i || decide (i = c)) k + (if (p k || decide (k = c)) = true then 1 else 0) = zc_n p k + (if p k = true then 1 else 0) + 1
    by_cases e : k = c
    · rw [← e] at h ⊢
      rw [zc_cg (p := fun i => p i || decide (i = k)) (q := p) (fun i hi => by rw [decide_eq_false (by omega), Bool.or_false]), h, decide_eq_true rfl]
      rfl
    · rw [ih (by omega), decide_eq_false e, Bool.or_false]
      exact Nat.add_right_comm _ _ _
theorem zc_lt {p : Nat → Bool} {c k : Nat} (hc : c < k) (h : p c = false) : zc_n p k < k := by
  have h1 := zc_set hc h
  have h2 := zc_le (fun i => p i || decide (i = c)) k
  omega
theorem zc_mono {p q : Nat → Bool} {k : Nat} (h : ∀ i, i < k → p i = true → q i = true) : zc_n p k ≤ zc_n q k := by
  induction k with
  | zero => exact Nat.le_refl 0
  | succ k ih =>
    show zc_n p k + (if p k = true then 1 else 0) ≤ zc_n q k + (if q k = true then 1 else 0)
    have i1 := ih (fun i hi => h i (by omega))
    by_cases hp : p k = true
    · rw [if_pos hp, if_pos (h k (by omega) hp)]
      omega
    · rw [if_neg hp]
      omega
theorem zc_strict {p q : Nat → Bool} {c k : Nat} (h : ∀ i, i < k → p i = true → q i = true) (hc : c < k) (h1 : p c = false) (h2 : q c = true) : zc_n p k < zc_n q k := by
  have a1 := zc_set hc h1
  have a2 : zc_n (fun i => p i || decide (i = c)) k ≤ zc_n q k := zc_mono (fun i hi hp => by
    rcases Bool.or_eq_true _ _ ▸ hp with z | z
    · exact h i hi z
    · rw [of_decide_eq_true z]
      exact h2)
  omega
theorem zc_pos {p : Nat → Bool} {c k : Nat} (hc : c < k) (h : p c = true) : 0 < zc_n p k := by
  have a := zc_strict (p := fun _ => false) (q := p) (k := k) (fun i _ z => absurd z (by decide)) hc rfl h
  omega
theorem zc_inj {k : Nat} (f : Nat → Nat) : ∀ (m : Nat) (p : Nat → Bool), (∀ i, i < k → p i = true → f i < m) → (∀ i j, i < k → j < k → p i = true → p j = true → f i = f j → i = j) → zc_n p k ≤ m := by
  intro m
  induction m with
  | zero =>
    intro p h1 _
    rw [zc_z (fun i hi => zb_tf (fun z => absurd (h1 i hi z) (by omega)))]
    exact Nat.le_refl 0
  | succ m ih =>
    intro p h1 h2
    by_cases hx : ∃ i0, i0 < k ∧ p i0 = true ∧ f i0 = m
    · obtain ⟨i0, a, b, c⟩ := hx
      have e : zc_n p k = zc_n (fun i => p i && !decide (i = i0)) k + 1 := by
        rw [← zc_set (p := fun i => p i && !decide (i = i0)) a (by rw [decide_eq_true rfl, Bool.not_true, Bool.and_false])]
        refine zc_cg (fun i hi => ?_)
        by_cases e : i = i0
        · rw [e, b, decide_eq_true rfl]
          rfl
        · rw [decide_eq_false e, Bool.not_false, Bool.and_true, Bool.or_false]
      have q : ∀ i, (p i && !decide (i = i0)) = true → p i = true ∧ i ≠ i0 := by
        intro i hi
        obtain ⟨u, v⟩ := Bool.and_eq_true_iff.mp hi
        refine ⟨u, fun z => ?_⟩
        rw [decide_eq_true z] at v
        exact absurd v (by decide)
      have r := ih (fun i => p i && !decide (i = i0)) (fun i hi hp => by
        have u := q i hp
        have v := h1 i hi u.1
        have w : f i ≠ m := fun z => u.2 (h2 i i0 hi a u.1 b (by omega))
        omega) (fun i j hi hj hp hq he => h2 i j hi hj (q i hp).1 (q j hq).1 he)
      omega
    · have r := ih p (fun i hi hp => by
        have v := h1 i hi hp
        have w : f i ≠ m := fun z => hx ⟨i, hi, hp, z⟩
        omega) h2
      omega
/-! ===== the source: parents, ranks, cells ===== -/
def zs_rk (n : Nat) (a1 : Nat → Int32) (rk : Nat → Nat) : Prop := (∀ j, j < n → rk j < n) ∧ ∀ j p, j < n → p < n → a1 j = nI p → rk p < rk j
def zs_par (n : Nat) (a1 : Nat → Int32) : Prop := ∀ j, j < n → a1 j = -1 ∨ ∃ p, p < n ∧ a1 j = nI p
def zs_cel (a2 : Nat → Int32) : Prop := ∀ i, i < 80 → ∃ m, m ≤ 1000 ∧ a2 i = nI m
def zs_src (n : Nat) (a1 a2 : Nat → Int32) : Prop := n ≤ 10 ∧ zs_par n a1 ∧ (∃ rk, zs_rk n a1 rk) ∧ zs_cel a2
theorem zs_cmp {n : Nat} {a1 : Nat → Int32} {rk : Nat → Nat} (h : ∀ j p, j < n → p < n → a1 j = nI p → rk p < rk j) : ∃ rk', zs_rk n a1 rk' := by
  refine ⟨fun j => zc_n (fun i => decide (rk i < rk j)) n, fun j hj => zc_lt (c := j) hj (decide_eq_false (Nat.lt_irrefl _)), fun j p hj hp e => ?_⟩
  have hr := h j p hj hp e
  refine zc_strict (c := p) (fun i _ hi => ?_) hp (decide_eq_false (Nat.lt_irrefl _)) (decide_eq_true hr)
  have hi' : rk i < rk p := of_decide_eq_true hi
  exact decide_eq_true (by omega)
/-- the owner of what c understands by s; 10: none -/
def zo_w (a1 a2 : Nat → Int32) : Nat → Nat → Nat → Nat
  | 0, _, _ => 10
  | f + 1, c, s => if a2 (c * 8 + s) = 0 then (if a1 c < 0 then 10 else zo_w a1 a2 f (a1 c).toNatClampNeg s) else c
def zo_ok (n : Nat) (a1 a2 : Nat → Int32) (O : Nat → Nat → Nat) : Prop :=
  (∀ c s, c < n → ¬ a2 (c * 8 + s) = 0 → O c s = c) ∧ (∀ c s, c < n → a2 (c * 8 + s) = 0 → a1 c = -1 → O c s = 10) ∧
  (∀ c s p, c < n → p < n → a2 (c * 8 + s) = 0 → a1 c = nI p → O c s = O p s) ∧ (∀ c s, c < n → O c s = 10 ∨ (O c s < n ∧ ¬ a2 (O c s * 8 + s) = 0))
theorem zo_fu {n : Nat} {a1 a2 : Nat → Int32} {rk : Nat → Nat} (hn : n ≤ 10) (hp : zs_par n a1) (hr : zs_rk n a1 rk) (s : Nat) : ∀ f g c, c < n → rk c < f → rk c < g → zo_w a1 a2 f c s = zo_w a1 a2 g c s := by
  intro f
  induction f with
  | zero => intro g c hc h1 _; omega
  | succ f ih =>
    intro g c hc h1 h2
    cases g with
    | zero => omega
    | succ g =>
      show (if a2 (c * 8 + s) = 0 then (if a1 c < 0 then 10 else zo_w a1 a2 f (a1 c).toNatClampNeg s) else c) = (if a2 (c * 8 + s) = 0 then (if a1 c < 0 then 10 else zo_w a1 a2 g (a1 c).toNatClampNeg s) else c)
      rcases hp c hc with e | ⟨p, hpn, e⟩
      · rw [e, if_pos zb_m1lt, if_pos zb_m1lt]
      · have hk := hr.2 c p hc hpn e
        rw [e, nI_clamp (by omega), ih g p hpn (by omega) (by omega)]
theorem zo_ex {n : Nat} {a1 a2 : Nat → Int32} (h : zs_src n a1 a2) : ∃ O, zo_ok n a1 a2 O := by
  obtain ⟨hn, hp, ⟨rk, hr⟩, _⟩ := h
  refine ⟨zo_w a1 a2 10, fun c s hc hd => ?_, fun c s hc hd e => ?_, fun c s p hc hpn hd e => ?_, fun c s hc => ?_⟩
  · show (if a2 (c * 8 + s) = 0 then _ else c) = c
    rw [if_neg hd]
  · show (if a2 (c * 8 + s) = 0 then (if a1 c < 0 then 10 else zo_w a1 a2 9 (a1 c).toNatClampNeg s) else c) = 10
    rw [if_pos hd, e, if_pos zb_m1lt]
  · have hk := hr.2 c p hc hpn e
    have hk2 := hr.1 c hc
    rw [zo_fu hn hp hr s 10 9 p hpn (by omega) (by omega)]
    show (if a2 (c * 8 + s) = 0 then (if a1 c < 0 then 10 else zo_w a1 a2 9 (a1 c).toNatClampNeg s) else c) = _
    rw [if_pos hd, e, if_neg (nI_pos (by omega)), nI_clamp (by omega)]
  · have g : ∀ f c, c < n → zo_w a1 a2 f c s = 10 ∨ (zo_w a1 a2 f c s < n ∧ ¬ a2 (zo_w a1 a2 f c s * 8 + s) = 0) := by
      intro f
      induction f with
      | zero => intro c _; exact Or.inl rfl
      | succ f ih =>
        intro c hc
        show (if a2 (c * 8 + s) = 0 then (if a1 c < 0 then 10 else zo_w a1 a2 f (a1 c).toNatClampNeg s) else c) = 10 ∨ ((if a2 (c * 8 + s) = 0 then (if a1 c < 0 then 10 else zo_w a1 a2 f (a1 c).toNatClampNeg s) else c) < n ∧ ¬ a2 ((if a2 (c * 8 + s) = 0 then (if a1 c < 0 then 10 else zo_w a1 a2 f (a1 c).toNatClampNeg s) else c) * 8 + s) = 0)
        by_cases hd : a2 (c * 8 + s) = 0
        · rw [if_pos hd]
          rcases hp c hc with e | ⟨p, hpn, e⟩
          · rw [e, if_pos zb_m1lt]
            exact Or.inl rfl
          · rw [e, if_neg (nI_pos (by omega)), nI_clamp (by omega)]
            exact ih p hpn
        · rw [if_neg hd]
          exact Or.inr ⟨hc, hd⟩
    exact g 10 c hc
end
section
abbrev z_K : Type := (Nat → Int32) → (Nat → Int32) → (Nat → Int32) → (Nat → Int32) → (Nat → Int32) → (Nat → Int32) → (Nat → Int32) → (Nat → Int32) → (Nat → Int32) → (Nat → Int32) → (Nat → Int32) → (Nat → Int32) → (Nat → Int32) → (Nat → Int32) → Prop
theorem zc_all {p : Nat → Bool} {k : Nat} (h : ∀ i, i < k → p i = true) : zc_n p k = k := by
  induction k with
  | zero => rfl
  | succ k ih =>
    show zc_n p k + (if p k = true then 1 else 0) = k + 1
    rw [ih (fun i hi => h i (by omega)), h k (by omega)]
    rfl
section
variable {f0 fb fl fq : Int32} {a1 a2 a3 a4 a5 a6 a7 a8 a9 a10 a11 a12 a13 a14 : Nat → Int32}
/-! ===== sortDown ===== -/
def zs_J (n : Nat) (a1 : Nat → Int32) (x1 x2 : Int32) (d : Nat → Int32) : Prop :=
  ∃ t, x2 = nI t ∧ t = zc_n (zb_t x1) n ∧ (∀ k, k < t → ∃ c, c < n ∧ d k = nI c ∧ zb_t x1 c = true ∧ (∀ j, j < k → ¬ d j = nI c) ∧ (∀ p, p < n → a1 c = nI p → ∃ j, j < k ∧ d j = nI p)) ∧ (∀ c, c < n → zb_t x1 c = true → ∃ k, k < t ∧ d k = nI c)
/-- the list D: every class once, each behind the one that it is under -/
def zs_D (n : Nat) (a1 d : Nat → Int32) (D : Nat → Nat) : Prop :=
  (∀ k, k < n → d k = nI (D k) ∧ D k < n) ∧ (∀ j k, j < k → k < n → ¬ D j = D k) ∧ (∀ k p, k < n → p < n → a1 (D k) = nI p → ∃ j, j < k ∧ D j = p) ∧ (∀ c, c < n → ∃ k, k < n ∧ D k = c)
theorem zs_Js {n c : Nat} {x1 x2 : Int32} {d : Nat → Int32} (hn : n ≤ 10) (h : zs_J n a1 x1 x2 d) (hc : c < n) (hw : zb_t x1 c = false) (hf : ∀ p, p < n → a1 c = nI p → zb_t x1 p = true) :
    ∃ t, t < n ∧ x2 = nI t ∧ zs_J n a1 (x1 ||| ((1 : Int32) <<< (nI c &&& 31))) (nI (t + 1)) (upd d t (nI c)) := by
  obtain ⟨t, e, ht, h1, h2⟩ := h
  have hl := zc_lt hc hw
  refine ⟨t, by omega, e, t + 1, rfl, ?_, fun k hk => ?_, fun c' hc' hb => ?_⟩
  · rw [zc_cg (fun i _ => zb_set x1 (by omega) i), zc_set hc hw, ht]
  · by_cases ek : k = t
    · rw [ek]
      refine ⟨c, hc, pk_us, by rw [zb_set x1 (by omega), decide_eq_true rfl, Bool.or_true], fun j hj => ?_, fun p hp ep => ?_⟩
      · rw [pk_un (by omega)]
        obtain ⟨c', hc', e', b', _⟩ := h1 j hj
        rw [e', nI_eq (by omega) (by omega)]
        intro z
        rw [z, hw] at b'
        exact absurd b' (by decide)
      · obtain ⟨j, hj, ej⟩ := h2 p hp (hf p hp ep)
        exact ⟨j, hj, by rw [pk_un (by omega)]; exact ej⟩
    · obtain ⟨c', hc', e', b', f', g'⟩ := h1 k (by omega)
      refine ⟨c', hc', by rw [pk_un ek]; exact e', by rw [zb_set x1 (by omega), b', Bool.true_or], fun j hj => by rw [pk_un (by omega)]; exact f' j hj, fun p hp ep => ?_⟩
      obtain ⟨j, hj, ej⟩ := g' p hp ep
      exact ⟨j, hj, by rw [pk_un (by omega)]; exact ej⟩
  · by_cases ec : c' = c
    · exact ⟨t, by omega, by rw [ec]; exact pk_us⟩
    · rw [zb_set x1 (by omega), decide_eq_false ec, Bool.or_false] at hb
      obtain ⟨k, hk, ek⟩ := h2 c' hc' hb
      exact ⟨k, by omega, by rw [pk_un (by omega)]; exact ek⟩
theorem zs_17 {post : St1 → Prop} {J6 : Int32 → Int32 → Int32 → z_K} {n r : Nat} {rk : Nat → Nat} (hn : n ≤ 10) (hp : zs_par n a1) (hr : zs_rk n a1 rk)
    (H : ∀ x1 x2 d, zs_J n a1 x1 x2 d → (∀ i, i < n → rk i < r + 1 → zb_t x1 i = true) → J6 x1 x2 (nI (r + 1)) a1 a2 a3 a4 a5 a6 a7 a8 a9 a10 a11 a12 a13 d)
    {x1 x2 : Int32} {d : Nat → Int32} (h : zs_J n a1 x1 x2 d) (hb : ∀ i, i < n → rk i < r → zb_t x1 i = true) :
    ∃ f, wX_sortDown_17 post J6 (nI r) (nI n) fb fl fq f x1 x2 0 a1 a2 a3 a4 a5 a6 a7 a8 a9 a10 a11 a12 a13 d := by
  refine pk_loop (fun f i (s : Int32 × Int32 × (Nat → Int32)) => wX_sortDown_17 post J6 (nI r) (nI n) fb fl fq f s.1 s.2.1 (nI i) a1 a2 a3 a4 a5 a6 a7 a8 a9 a10 a11 a12 a13 s.2.2) (fun i s => zs_J n a1 s.1 s.2.1 s.2.2 ∧ (∀ j, j < n → rk j < r → zb_t s.1 j = true) ∧ ∀ j, j < i → rk j ≤ r → zb_t s.1 j = true) n 0 (x1, x2, d) (by omega) ⟨h, hb, fun j hj => absurd hj (by omega)⟩ ?_ ?_
  · rintro f ⟨y1, y2, e⟩ ⟨g1, g2, g3⟩
    exact pk_le n n (fun _ => nm_r (nI_1 r) (H _ _ _ g1 (fun i hi hk => g3 i hi (by omega)))) (fun z => absurd z (by omega))
  · rintro f i ⟨y1, y2, e⟩ hi ⟨g1, g2, g3⟩ hw
    dsimp only at g1 g2 g3
    have hw' : ∀ y1' y2' e', zs_J n a1 y1' y2' e' → (∀ j, j < n → rk j < r → zb_t y1' j = true) → (∀ j, j < i + 1 → rk j ≤ r → zb_t y1' j = true) → wX_sortDown_17 post J6 (nI r) (nI n) fb fl fq f y1' y2' (nI (i + 1)) a1 a2 a3 a4 a5 a6 a7 a8 a9 a10 a11 a12 a13 e' := fun y1' y2' e' k1 k2 k3 => hw (y1', y2', e') ⟨k1, k2, k3⟩
    show wX_sortDown_17 post J6 (nI r) (nI n) fb fl fq (f + 1) y1 y2 (nI i) a1 a2 a3 a4 a5 a6 a7 a8 a9 a10 a11 a12 a13 e
    have g2' : ∀ j, j < n → rk j < r → zb_t y1 j = true := g2
    have g3' : ∀ j, j < i → rk j ≤ r → zb_t y1 j = true := g3
    refine pk_le n i (fun z => absurd z (by omega)) (fun _ => br_c (fun hb => ?_) (fun hb => ?_))
    · have hb' := (zb_t0 (by omega)).mp hb
      have A : (∀ p, p < n → a1 i = nI p → zb_t y1 p = true) → wX_sortDown_66 post J6 (wX_sortDown_17 post J6 (nI r) (nI n) fb fl fq f) y1 y2 (nI r) (nI i) 1 (nI n) fb fl fq a1 a2 a3 a4 a5 a6 a7 a8 a9 a10 a11 a12 a13 e := by
        intro hf
        obtain ⟨t, ht, et, g⟩ := zs_Js hn g1 hi hb' hf
        unfold wX_sortDown_66 wX_sortDown_71
        refine br_f (by decide) (br_f (by decide) ⟨pk_in t 10 (by omega) et, nm_r (e' := upd e t (nI i)) (by rw [et, nI_clamp (by omega), zb_k8 i (by omega)]) (nm_r (e' := nI (t + 1)) (by rw [et, nI_1]) (nm_e (nm_r (nI_1 i) (hw' _ _ _ g ?_ ?_))))⟩)
        · intro j hj hk
          rw [zb_set y1 (by omega), g2' j hj hk, Bool.true_or]
        · intro j hj hk
          rw [zb_set y1 (by omega)]
          by_cases ej : j = i
          · rw [decide_eq_true ej, Bool.or_true]
          · rw [g3' j (by omega) hk, Bool.true_or]
      unfold wX_sortDown_40
      refine ⟨pk_in i 10 (by omega), ?_⟩
      rw [nI_clamp (show i < 2 ^ 31 by omega)]
      rcases hp i hi with e1 | ⟨p, hpn, e1⟩
      · rw [e1]
        exact br_t zb_m1lt (A (fun p hp' ep => absurd (ep.symm.trans e1) (zb_ne1 (by omega))))
      · rw [e1]
        refine br_f (nI_pos (by omega)) ⟨pk_in i 10 (by omega), br_c (fun hz => ?_) (fun hz => ?_)⟩
        · have hz' := (zb_t0 (by omega)).mp hz
          unfold wX_sortDown_71
          refine br_f (by decide) (br_t rfl (nm_r (nI_1 i) (hw' _ _ _ g1 g2' (fun j hj hk => ?_))))
          by_cases ej : j = i
          · rw [ej] at hk
            have q := g2' p hpn (by have := hr.2 i p hi hpn e1; omega)
            rw [hz'] at q
            exact absurd q (by decide)
          · exact g3' j (by omega) hk
        · have hz' := (zb_n0 (by omega)).mp hz
          refine A (fun p' hp' ep => ?_)
          have ee := (nI_eq (by omega) (by omega)).mp (ep.symm.trans e1)
          rw [ee]
          exact hz'
    · have hb' := (zb_n0 (by omega)).mp hb
      have fin : wX_sortDown_17 post J6 (nI r) (nI n) fb fl fq f y1 y2 (nI (i + 1)) a1 a2 a3 a4 a5 a6 a7 a8 a9 a10 a11 a12 a13 e := hw' _ _ _ g1 g2' (fun j hj hk => by
        by_cases ej : j = i
        · rw [ej]; exact hb'
        · exact g3' j (by omega) hk)
      have B : ∀ z, wX_sortDown_71 post J6 (wX_sortDown_17 post J6 (nI r) (nI n) fb fl fq f) y1 y2 (nI r) (nI i) 0 z (nI n) fb fl fq a1 a2 a3 a4 a5 a6 a7 a8 a9 a10 a11 a12 a13 e := by
        intro z
        unfold wX_sortDown_71
        exact br_t rfl (nm_r (nI_1 i) fin)
      unfold wX_sortDown_40
      refine ⟨pk_in i 10 (by omega), br_c (fun _ => B 1) (fun _ => ⟨pk_in i 10 (by omega), br_c (fun _ => B 0) (fun _ => B 1)⟩)⟩
theorem zs_sort {post : St1 → Prop} {n : Nat} (hn : n ≤ 10) (hp : zs_par n a1) (hr : ∃ rk, zs_rk n a1 rk)
    (H : ∀ d D, zs_D n a1 d D → post (nI n, fb, fl, fq, a1, a2, a3, a4, a5, a6, a7, a8, a9, a10, a11, a12, a13, d)) : wpX_sortDown post (nI n, fb, fl, fq, a1, a2, a3, a4, a5, a6, a7, a8, a9, a10, a11, a12, a13, a14) := by
  obtain ⟨rk, hr⟩ := hr
  show ∃ f, wX_sortDown_6 post (nI n) fb fl fq f 0 0 0 a1 a2 a3 a4 a5 a6 a7 a8 a9 a10 a11 a12 a13 a14
  refine pk_loop (fun f i (s : Int32 × Int32 × (Nat → Int32)) => wX_sortDown_6 post (nI n) fb fl fq f s.1 s.2.1 (nI i) a1 a2 a3 a4 a5 a6 a7 a8 a9 a10 a11 a12 a13 s.2.2) (fun i s => zs_J n a1 s.1 s.2.1 s.2.2 ∧ ∀ j, j < n → rk j < i → zb_t s.1 j = true) n 0 (0, 0, a14) (by omega) ⟨⟨0, rfl, (zc_z (fun i _ => zb_0 i)).symm, fun k hk => absurd hk (by omega), fun c _ hb => absurd ((zb_0 c).symm.trans hb) (by decide)⟩, fun j _ hj => absurd hj (by omega)⟩ ?_ ?_
  · rintro f ⟨y1, y2, d⟩ ⟨g1, g2⟩
    dsimp only at g1 g2
    refine pk_le n n (fun _ => ?_) (fun z => absurd z (by omega))
    obtain ⟨t, _, ht, h1, h2⟩ := g1
    have ht' : t = n := by rw [ht]; exact zc_all (fun i hi => g2 i hi (hr.1 i hi))
    rw [ht'] at h1 h2
    have eD : ∀ k c, c < n → d k = nI c → (d k).toNatClampNeg = c := fun k c hc e => by rw [e, nI_clamp (by omega)]
    refine H d (fun k => (d k).toNatClampNeg) ⟨fun k hk => ?_, fun j k hj hk => ?_, fun k p hk hp' ep => ?_, fun c hc => ?_⟩
    · obtain ⟨c, hc, e, _⟩ := h1 k hk
      exact ⟨by show d k = nI ((d k).toNatClampNeg); rw [eD k c hc e, e], by show (d k).toNatClampNeg < n; rw [eD k c hc e]; exact hc⟩
    · obtain ⟨c, hc, e, _, q, _⟩ := h1 k hk
      obtain ⟨c', hc', e', _⟩ := h1 j (by omega)
      show ¬ (d j).toNatClampNeg = (d k).toNatClampNeg
      rw [eD k c hc e, eD j c' hc' e']
      intro z
      exact q j hj (by rw [e', z])
    · obtain ⟨c, hc, e, _, _, q⟩ := h1 k hk
      have ep' : a1 ((d k).toNatClampNeg) = nI p := ep
      rw [eD k c hc e] at ep'
      obtain ⟨j, hj, ej⟩ := q p hp' ep'
      exact ⟨j, hj, eD j p hp' ej⟩
    · obtain ⟨k, hk, ek⟩ := h2 c hc (g2 c hc (hr.1 c hc))
      exact ⟨k, hk, eD k c hc ek⟩
  · rintro f i ⟨y1, y2, d⟩ hi ⟨g1, g2⟩ hw
    exact pk_le n i (fun z => absurd z (by omega)) (fun _ => zs_17 hn hp hr (fun x1 x2 d' k1 k2 => hw (x1, x2, d') ⟨k1, k2⟩) g1 g2)
/-! ===== own, learn, meet ===== -/
theorem zo_own {post : Int32 → Prop} {c : Nat} (hc : c < 10) (H : ∀ x, (∀ s, zb_t x s = (decide (s < 8) && !decide (a2 (c * 8 + s) = 0))) → post x) :
    wpX_own post (f0, fb, fl, fq, a1, a2, a3, a4, a5, a6, a7, a8, a9, a10, a11, a12, a13, a14) (nI c) := by
  show ∃ f, wX_own_4 post (nI c) f0 fb fl fq a1 a2 a3 a4 a5 a6 a7 a8 a9 a10 a11 a12 a13 a14 f 0 0
  refine pk_loop (fun f i (x : Int32) => wX_own_4 post (nI c) f0 fb fl fq a1 a2 a3 a4 a5 a6 a7 a8 a9 a10 a11 a12 a13 a14 f x (nI i)) (fun i x => ∀ s, zb_t x s = (decide (s < i) && !decide (a2 (c * 8 + s) = 0))) 8 0 0 (by omega) (fun s => by rw [zb_0, decide_eq_false (by omega), Bool.false_and]) ?_ ?_
  · intro f x h
    exact pk_le 8 8 (fun _ => H x h) (fun z => absurd z (by omega))
  · intro f i x hi h hw
    have ei : nI c * 8 + nI i = nI (c * 8 + i) := by rw [show (8 : Int32) = nI 8 from rfl, pk_mul, nI_add]
    refine pk_le 8 i (fun z => absurd z (by omega)) (fun _ => ⟨by rw [ei]; exact pk_in (c * 8 + i) 80 (by omega), ?_⟩)
    rw [ei, nI_clamp (by omega)]
    refine br_c (fun hz => nm_r (nI_1 i) (hw x (fun s => ?_))) (fun hz => nm_e (nm_r (nI_1 i) (hw _ (fun s => ?_))))
    · rw [h s]
      by_cases es : s = i
      · rw [es, decide_eq_true hz, Bool.not_true, Bool.and_false, Bool.and_false]
      · rw [show decide (s < i + 1) = decide (s < i) from decide_eq_decide.mpr (by omega)]
    · rw [zb_set x (by omega), h s]
      by_cases es : s = i
      · rw [es, decide_eq_false hz, decide_eq_true (rfl : i = i), decide_eq_true (show i < i + 1 by omega), Bool.or_true]
        rfl
      · rw [decide_eq_false es, Bool.or_false, show decide (s < i + 1) = decide (s < i) from decide_eq_decide.mpr (by omega)]
def zl_K (O : Nat → Nat → Nat) (a3 : Nat → Int32) (c : Nat) : Prop := zb_sm (a3 c) 8 ∧ ∀ s, s < 8 → zb_t (a3 c) s = decide (O c s < 10)
theorem zl_learn {post : St1 → Prop} {n : Nat} {O : Nat → Nat → Nat} {D : Nat → Nat} (hn : n ≤ 10) (hp : zs_par n a1) (hO : zo_ok n a1 a2 O) (hD : zs_D n a1 a14 D)
    (H : ∀ k3, (∀ c, c < n → zl_K O k3 c) → post (nI n, fb, fl, fq, a1, a2, k3, a4, a5, a6, a7, a8, a9, a10, a11, a12, a13, a14)) : wpX_learn post (nI n, fb, fl, fq, a1, a2, a3, a4, a5, a6, a7, a8, a9, a10, a11, a12, a13, a14) := by
  show ∃ f, wX_learn_2 post (nI n) fb fl fq f 0 a1 a2 a3 a4 a5 a6 a7 a8 a9 a10 a11 a12 a13 a14
  refine pk_loop (fun f i (s : Nat → Int32) => wX_learn_2 post (nI n) fb fl fq f (nI i) a1 a2 s a4 a5 a6 a7 a8 a9 a10 a11 a12 a13 a14) (fun i s => ∀ j, j < i → zl_K O s (D j)) n 0 a3 (by omega) (fun j hj => absurd hj (by omega)) ?_ ?_
  · intro f s h
    exact pk_le n n (fun _ => H s (fun c hc => by
      obtain ⟨k, hk, ek⟩ := hD.2.2.2 c hc
      rw [← ek]
      exact h k hk)) (fun z => absurd z (by omega))
  · intro f i s hi h hw
    have hDi := (hD.1 i hi).2
    have B : ∀ z, zb_sm z 8 → (∀ t, t < 8 → (zb_t z t || !decide (a2 (D i * 8 + t) = 0)) = decide (O (D i) t < 10)) → wX_learn_41 post (wX_learn_2 post (nI n) fb fl fq f) (nI i) (nI (D i)) z (nI n) fb fl fq a1 a2 s a4 a5 a6 a7 a8 a9 a10 a11 a12 a13 a14 := by
      intro z hz hz2
      unfold wX_learn_41
      refine zo_own (by omega) (fun x hx => ?_)
      have hsm : zb_sm (z ||| x) 8 := fun t ht => by rw [zb_or, hz t ht, hx t, decide_eq_false (by omega), Bool.false_and, Bool.or_false]
      refine ⟨pk_in (D i) 10 (by omega), nm_r (e' := upd s (D i) (z ||| x)) (by rw [nI_clamp (by omega), zb_16 hsm]) (nm_r (nI_1 i) (hw _ (fun j hj => ?_)))⟩
      by_cases ej : j = i
      · rw [ej]
        refine ⟨by rw [pk_us]; exact hsm, fun t ht => ?_⟩
        rw [pk_us, zb_or, hx t, decide_eq_true ht, Bool.true_and]
        exact hz2 t ht
      · have q := h j (by omega)
        unfold zl_K
        rw [pk_un (hD.2.1 j i (by omega) hi)]
        exact q
    refine pk_le n i (fun z => absurd z (by omega)) (fun _ => ⟨pk_in i 10 (by omega), nm_r (e' := nI (D i)) (by rw [nI_clamp (by omega)]; exact (hD.1 i hi).1) ⟨pk_in (D i) 10 (by omega), ?_⟩⟩)
    rw [nI_clamp (show D i < 2 ^ 31 by omega)]
    rcases hp (D i) hDi with e | ⟨p, hpn, e⟩
    · rw [e]
      refine br_f (by decide) (B 0 (fun t _ => zb_0 t) (fun t ht => ?_))
      rw [zb_0, Bool.false_or]
      by_cases hd : a2 (D i * 8 + t) = 0
      · rw [decide_eq_true hd, hO.2.1 _ _ hDi hd e]
        rfl
      · rw [decide_eq_false hd, hO.1 _ _ hDi hd, decide_eq_true (show D i < 10 by omega)]
        rfl
    · rw [e]
      obtain ⟨j, hj, ej⟩ := hD.2.2.1 i p hi hpn e
      have q := h j hj
      rw [ej] at q
      refine br_t (nI_pos' (by omega)) ⟨pk_in (D i) 10 (by omega), pk_in p 10 (by omega), ?_⟩
      rw [nI_clamp (show p < 2 ^ 31 by omega)]
      refine B (s p) q.1 (fun t ht => ?_)
      rw [q.2 t ht]
      by_cases hd : a2 (D i * 8 + t) = 0
      · rw [decide_eq_true hd, Bool.not_true, Bool.or_false, hO.2.2.1 _ _ p hDi hpn hd e]
      · rw [decide_eq_false hd, Bool.not_false, Bool.or_true, hO.1 _ _ hDi hd, decide_eq_true (show D i < 10 by omega)]
def zm_P (n : Nat) (O : Nat → Nat → Nat) (s t : Nat) : Prop := ∃ c, c < n ∧ O c s < 10 ∧ O c t < 10
def zm_M (n : Nat) (O : Nat → Nat → Nat) (m4 : Nat → Int32) (s : Nat) : Prop := zb_sm (m4 s) 8 ∧ ∀ t, t < 8 → (zb_t (m4 s) t = true ↔ zm_P n O s t)
theorem zm_meet {post : St1 → Prop} {n : Nat} {O : Nat → Nat → Nat} (hn : n ≤ 10) (h3 : ∀ c, c < n → zl_K O a3 c)
    (H : ∀ m4, (∀ s, s < 8 → zm_M n O m4 s) → post (nI n, fb, fl, fq, a1, a2, a3, m4, a5, a6, a7, a8, a9, a10, a11, a12, a13, a14)) : wpX_meet post (nI n, fb, fl, fq, a1, a2, a3, a4, a5, a6, a7, a8, a9, a10, a11, a12, a13, a14) := by
  show ∃ f, wX_meet_2 post (nI n) fb fl fq f 0 a1 a2 a3 a4 a5 a6 a7 a8 a9 a10 a11 a12 a13 a14
  refine pk_loop (fun f i (s : Nat → Int32) => wX_meet_2 post (nI n) fb fl fq f (nI i) a1 a2 a3 s a5 a6 a7 a8 a9 a10 a11 a12 a13 a14) (fun i s => ∀ j, j < i → zm_M n O s j) 8 0 a4 (by omega) (fun j hj => absurd hj (by omega)) ?_ ?_
  · intro f s h
    exact pk_le 8 8 (fun _ => H s h) (fun z => absurd z (by omega))
  · intro f i s hi h hw
    refine pk_le 8 i (fun z => absurd z (by omega)) (fun _ => ?_)
    refine pk_loop (fun g c (x : Int32) => wX_meet_12 post (wX_meet_2 post (nI n) fb fl fq f) (nI i) (nI n) fb fl fq a1 a2 a3 s a5 a6 a7 a8 a9 a10 a11 a12 a13 a14 g x (nI c)) (fun c x => zb_sm x 8 ∧ ∀ t, t < 8 → (zb_t x t = true ↔ ∃ c', c' < c ∧ O c' i < 10 ∧ O c' t < 10)) n 0 0 (by omega) ⟨fun t _ => zb_0 t, fun t _ => ⟨fun z => absurd ((zb_0 t).symm.trans z) (by decide), fun ⟨c', hc', _⟩ => absurd hc' (by omega)⟩⟩ ?_ ?_
    · intro g x hx
      refine pk_le n n (fun _ => ⟨pk_in i 8 hi, nm_r (e' := upd s i x) (by rw [nI_clamp (by omega), zb_16 hx.1]) (nm_r (nI_1 i) (hw _ (fun j hj => ?_)))⟩) (fun z => absurd z (by omega))
      by_cases ej : j = i
      · rw [ej]
        unfold zm_M
        rw [pk_us]
        exact hx
      · unfold zm_M
        rw [pk_un ej]
        exact h j (by omega)
    · intro g c x hc hx hw'
      refine pk_le n c (fun z => absurd z (by omega)) (fun _ => ⟨pk_in c 10 (by omega), ?_⟩)
      rw [nI_clamp (show c < 2 ^ 31 by omega)]
      have k3 := h3 c hc
      refine br_c (fun hz => nm_r (nI_1 c) (hw' x ⟨hx.1, fun t ht => ?_⟩)) (fun hz => ⟨pk_in c 10 (by omega), nm_e (nm_r (nI_1 c) (hw' _ ⟨fun t ht => ?_, fun t ht => ?_⟩))⟩)
      · have hz' := (zb_t0 (by omega)).mp hz
        rw [k3.2 i hi] at hz'
        have hz2 := of_decide_eq_false hz'
        rw [hx.2 t ht]
        refine ⟨fun ⟨c', a, b⟩ => ⟨c', by omega, b⟩, fun ⟨c', a, b⟩ => ⟨c', ?_, b⟩⟩
        by_cases ec : c' = c
        · rw [ec] at b
          exact absurd b.1 hz2
        · omega
      · rw [zb_or, hx.1 t ht, k3.1 t ht]
        rfl
      · have hz' := (zb_n0 (by omega)).mp hz
        rw [k3.2 i hi] at hz'
        have hz2 := of_decide_eq_true hz'
        rw [zb_or, Bool.or_eq_true, hx.2 t ht, k3.2 t ht, decide_eq_true_iff]
        constructor
        · rintro (⟨c', a, b⟩ | z)
          · exact ⟨c', by omega, b⟩
          · exact ⟨c, by omega, hz2, z⟩
        · rintro ⟨c', a, b⟩
          by_cases ec : c' = c
          · rw [ec] at b
            exact Or.inr b.2
          · exact Or.inl ⟨c', by omega, b⟩
end
end
section
section
variable {f0 fb fl fq : Int32} {a1 a2 a3 a4 a5 a6 a7 a8 a9 a10 a11 a12 a13 a14 : Nat → Int32}
/-! ===== sizeOf, lineUp ===== -/
theorem zz_size {post : Int32 → Prop} {x : Int32} (H : post (nI (zc_n (zb_t x) 8))) : wpX_sizeOf post () x := by
  show ∃ f, wX_sizeOf_4 post x f 0 0
  refine pk_loop (fun f i (y : Int32) => wX_sizeOf_4 post x f y (nI i)) (fun i y => y = nI (zc_n (zb_t x) i)) 8 0 0 (by omega) rfl ?_ ?_
  · intro f y h
    exact pk_le 8 8 (fun _ => by rw [h]; exact H) (fun z => absurd z (by omega))
  · intro f i y hi h hw
    refine pk_le 8 i (fun z => absurd z (by omega)) (fun _ => nm_r (e' := nI (zc_n (zb_t x) (i + 1))) ?_ (nm_r (nI_1 i) (hw _ rfl)))
    rw [h, zb_tst x (by omega)]
    show nI (zc_n (zb_t x) i) + (if zb_t x i = true then 1 else 0) = nI (zc_n (zb_t x) i + if zb_t x i = true then 1 else 0)
    rw [← nI_add]
    split <;> rfl
def zn_L (n : Nat) (O : Nat → Nat → Nat) (l : Nat) (a7 : Nat → Int32) (L : Nat → Nat) : Prop :=
  l ≤ 8 ∧ (∀ k, k < l → a7 k = nI (L k) ∧ L k < 8) ∧ (∀ j k, j < k → k < l → ¬ L j = L k) ∧ (∀ s, s < 8 → zm_P n O s s → ∃ k, k < l ∧ L k = s)
theorem zn_23 {post : St1 → Prop} {J9 : Int32 → Int32 → Int32 → z_K} {x1 : Int32} {r l : Nat} (hl : fl = nI l) (hl8 : (∃ s, s < 8 ∧ zb_t x1 s = false) → l < 8)
    (H0 : (∀ s, s < 8 → zb_t x1 s = false → zc_n (zb_t (a4 s)) 8 = 0) → J9 x1 (nI (r + 1)) fl a1 a2 a3 a4 a5 a6 a7 a8 a9 a10 a11 a12 a13 a14)
    (H1 : ∀ s, s < 8 → zb_t x1 s = false → J9 (x1 ||| ((1 : Int32) <<< (nI s &&& 31))) (nI (r + 1)) (nI (l + 1)) a1 a2 a3 a4 a5 a6 (upd a7 l (nI s)) a8 a9 a10 a11 a12 a13 a14) :
    ∃ f, wX_lineUp_23 post J9 x1 (nI r) f0 fb fl fq a1 a2 a3 a4 a5 a6 a7 a8 a9 a10 a11 a12 a13 a14 f (-1) 0 0 := by
  refine pk_loop (fun f i (s : Int32 × Int32) => wX_lineUp_23 post J9 x1 (nI r) f0 fb fl fq a1 a2 a3 a4 a5 a6 a7 a8 a9 a10 a11 a12 a13 a14 f s.1 s.2 (nI i)) (fun i s => ∃ m, s.2 = nI m ∧ m ≤ 8 ∧ ((s.1 = -1 ∧ m = 0 ∧ ∀ t, t < i → zb_t x1 t = false → zc_n (zb_t (a4 t)) 8 = 0) ∨ ∃ t, t < i ∧ s.1 = nI t ∧ zb_t x1 t = false)) 8 0 (-1, 0) (by omega) ⟨0, rfl, by omega, Or.inl ⟨rfl, rfl, fun t ht => absurd ht (by omega)⟩⟩ ?_ ?_
  · rintro f ⟨x3, x4⟩ ⟨m, e4, hm, h⟩
    refine pk_le 8 8 (fun _ => ?_) (fun z => absurd z (by omega))
    rcases h with ⟨e3, _, h⟩ | ⟨t, ht, e3, hb⟩
    · have e3' : x3 = -1 := e3
      rw [e3']
      exact br_t zb_m1lt (nm_r (nI_1 r) (H0 h))
    · have e3' : x3 = nI t := e3
      rw [e3']
      have hl' := hl8 ⟨t, ht, hb⟩
      exact br_f (nI_pos (by omega)) (nm_e ⟨pk_in l 8 hl' hl, nm_r (e' := upd a7 l (nI t)) (by rw [hl, nI_clamp (by omega), zb_k8 t (by omega)]) (nm_r (e' := nI (l + 1)) (by rw [hl, nI_1]) (nm_r (nI_1 r) (H1 t ht hb)))⟩)
  · rintro f i ⟨x3, x4⟩ hi ⟨m, e4, hm, h⟩ hw
    have e4' : x4 = nI m := e4
    have hz := zc_le (zb_t (a4 i)) 8
    refine pk_le 8 i (fun z => absurd z (by omega)) (fun _ => ⟨pk_in i 8 hi, ?_⟩)
    rw [nI_clamp (show i < 2 ^ 31 by omega)]
    refine zz_size ?_
    refine br_c (fun hb => ?_) (fun hb => nm_r (nI_1 i) (hw (x3, x4) ⟨m, e4, hm, ?_⟩))
    · have hb' := (zb_t0 (by omega)).mp hb
      refine pk_le (zc_n (zb_t (a4 i)) 8) m (fun z => nm_r (nI_1 i) (hw (x3, x4) ⟨m, e4, hm, ?_⟩)) (fun z => nm_r (nI_1 i) (hw (_, _) ⟨_, rfl, hz, Or.inr ⟨i, by omega, rfl, hb'⟩⟩)) rfl e4'
      rcases h with ⟨u, v, w⟩ | ⟨t, ht, u⟩
      · refine Or.inl ⟨u, v, fun t ht hbt => ?_⟩
        by_cases et : t = i
        · rw [et]
          omega
        · exact w t (by omega) hbt
      · exact Or.inr ⟨t, by omega, u⟩
    · have hb' := (zb_n0 (by omega)).mp hb
      rcases h with ⟨u, v, w⟩ | ⟨t, ht, u⟩
      · refine Or.inl ⟨u, v, fun t ht hbt => ?_⟩
        by_cases et : t = i
        · rw [et, hb'] at hbt
          exact absurd hbt (by decide)
        · exact w t (by omega) hbt
      · exact Or.inr ⟨t, by omega, u⟩
theorem zn_line {post : St1 → Prop} {n : Nat} {O : Nat → Nat → Nat} (h4 : ∀ s, s < 8 → zm_M n O a4 s)
    (H : ∀ l b7 L, zn_L n O l b7 L → post (f0, fb, nI l, fq, a1, a2, a3, a4, a5, a6, b7, a8, a9, a10, a11, a12, a13, a14)) : wpX_lineUp post (f0, fb, fl, fq, a1, a2, a3, a4, a5, a6, a7, a8, a9, a10, a11, a12, a13, a14) := by
  show ∃ f, wX_lineUp_9 post f0 fb fq f 0 0 0 a1 a2 a3 a4 a5 a6 a7 a8 a9 a10 a11 a12 a13 a14
  refine pk_loop (fun f i (s : Int32 × Int32 × (Nat → Int32)) => wX_lineUp_9 post f0 fb fq f s.1 (nI i) s.2.1 a1 a2 a3 a4 a5 a6 s.2.2 a8 a9 a10 a11 a12 a13 a14) (fun i s => zs_J 8 (fun _ => -1) s.1 s.2.1 s.2.2 ∧ (s.2.1 = nI i ∨ ∀ t, t < 8 → zb_t s.1 t = false → zc_n (zb_t (a4 t)) 8 = 0)) 8 0 (0, 0, a7) (by omega) ⟨⟨0, rfl, (zc_z (fun i _ => zb_0 i)).symm, fun k hk => absurd hk (by omega), fun c _ hb => absurd ((zb_0 c).symm.trans hb) (by decide)⟩, Or.inl rfl⟩ ?_ ?_
  · rintro f ⟨x1, y, b7⟩ ⟨⟨t, et, ht, h1, h2⟩, g⟩
    refine pk_le 8 8 (fun _ => ?_) (fun z => absurd z (by omega))
    have et' : y = nI t := et
    have ht' : t = zc_n (zb_t x1) 8 := ht
    have ht8 := zc_le (zb_t x1) 8
    rw [et']
    have eD : ∀ k c, c < 8 → b7 k = nI c → (b7 k).toNatClampNeg = c := fun k c hc e => by rw [e, nI_clamp (by omega)]
    refine H t b7 (fun k => (b7 k).toNatClampNeg) ⟨by omega, fun k hk => ?_, fun j k hj hk => ?_, fun s hs hP => ?_⟩
    · obtain ⟨c, hc, e, _⟩ := h1 k hk
      exact ⟨by show b7 k = nI ((b7 k).toNatClampNeg); rw [eD k c hc e]; exact e, by show (b7 k).toNatClampNeg < 8; rw [eD k c hc e]; exact hc⟩
    · obtain ⟨c, hc, e, _, q, _⟩ := h1 k hk
      obtain ⟨c', hc', e', _⟩ := h1 j (by omega)
      show ¬ (b7 j).toNatClampNeg = (b7 k).toNatClampNeg
      rw [eD k c hc e, eD j c' hc' e']
      intro z
      exact q j hj (by rw [← z]; exact e')
    · have hb : zb_t x1 s = true := by
        refine zb_ft (fun hb => ?_)
        rcases g with g | g
        · have g' : nI t = nI 8 := et'.symm.trans g
          have ge := (nI_eq (by omega) (by omega)).mp g'
          have q := zc_lt hs hb
          omega
        · have q := g s hs hb
          have q2 := zc_pos (p := zb_t (a4 s)) hs (((h4 s hs).2 s hs).mpr hP)
          omega
      obtain ⟨k, hk, ek⟩ := h2 s hs hb
      exact ⟨k, hk, eD k s hs ek⟩
  · rintro f i ⟨x1, y, b7⟩ hi ⟨⟨t, et, ht, h1, h2⟩, g⟩ hw
    have et' : y = nI t := et
    have ht' : t = zc_n (zb_t x1) 8 := ht
    have J : zs_J 8 (fun _ => -1) x1 y b7 := ⟨t, et, ht, h1, h2⟩
    refine pk_le 8 i (fun z => absurd z (by omega)) (fun _ => zn_23 et' (fun ⟨s, hs, hb⟩ => by have := zc_lt hs hb; omega) (fun h0 => hw (x1, y, b7) ⟨J, Or.inr h0⟩) (fun s hs hb => ?_))
    obtain ⟨t', ht2, et2, J'⟩ := zs_Js (by omega) J hs hb (fun p hp ep => absurd ep.symm (zb_ne1 (by omega)))
    have e2 : t' = t := (nI_eq (by omega) (by have := zc_le (zb_t x1) 8; omega)).mp (et2.symm.trans et')
    rw [e2] at J'
    refine hw (_, _, _) ⟨J', ?_⟩
    rcases g with g | g
    · have g' : y = nI i := g
      have e3 : t = i := (nI_eq (by omega) (by omega)).mp (et'.symm.trans g')
      exact Or.inl (by show nI (t + 1) = nI (i + 1); rw [e3])
    · refine Or.inr (fun u hu hbu => g u hu ?_)
      have hbu' : zb_t (x1 ||| ((1 : Int32) <<< (nI s &&& 31))) u = false := hbu
      rw [zb_set x1 (by omega)] at hbu'
      exact (Bool.or_eq_false_iff.mp hbu').1
/-! ===== opened, nextColour, keep ===== -/
theorem zp_opened {post : Int32 → Prop} {lev : Nat} {L : Nat → Nat} (hv : lev ≤ 8) (hL : ∀ k, k < lev → a7 k = nI (L k) ∧ L k < 8) (hq : ∀ k, k < lev → ∃ q, q < 8 ∧ a5 (L k) = nI q)
    (H : ∀ o, o ≤ 8 → (∀ k, k < lev → ∃ q, q < o ∧ a5 (L k) = nI q) → post (nI o)) : wpX_opened post (f0, fb, fl, fq, a1, a2, a3, a4, a5, a6, a7, a8, a9, a10, a11, a12, a13, a14) (nI lev) := by
  show ∃ f, wX_opened_4 post (nI lev) f0 fb fl fq a1 a2 a3 a4 a5 a6 a7 a8 a9 a10 a11 a12 a13 a14 f 0 0
  refine pk_loop (fun f i (x : Int32) => wX_opened_4 post (nI lev) f0 fb fl fq a1 a2 a3 a4 a5 a6 a7 a8 a9 a10 a11 a12 a13 a14 f x (nI i)) (fun i x => ∃ o, x = nI o ∧ o ≤ 8 ∧ ∀ k, k < i → ∃ q, q < o ∧ a5 (L k) = nI q) lev 0 0 (by omega) ⟨0, rfl, by omega, fun k hk => absurd hk (by omega)⟩ ?_ ?_
  · rintro f x ⟨o, rfl, ho, h⟩
    exact pk_le lev lev (fun _ => H o ho h) (fun z => absurd z (by omega))
  · rintro f i x hi ⟨o, rfl, ho, h⟩ hw
    obtain ⟨e7, h7⟩ := hL i hi
    obtain ⟨q, hq8, eq⟩ := hq i hi
    refine pk_le lev i (fun z => absurd z (by omega)) (fun _ => ⟨pk_in i 8 (by omega), ?_⟩)
    rw [nI_clamp (show i < 2 ^ 31 by omega), e7]
    refine ⟨pk_in (L i) 8 h7, ?_⟩
    rw [nI_clamp (show L i < 2 ^ 31 by omega), eq]
    refine pk_lt q o (fun z => nm_r (nI_1 i) (hw _ ⟨o, rfl, ho, fun k hk => ?_⟩)) (fun z => ⟨pk_in i 8 (by omega), pk_in (L i) 8 h7, nm_r (nI_1 q) (nm_r (nI_1 i) (hw _ ⟨q + 1, rfl, by omega, fun k hk => ?_⟩))⟩)
    · by_cases ek : k = i
      · rw [ek]
        exact ⟨q, z, eq⟩
      · exact h k (by omega)
    · by_cases ek : k = i
      · rw [ek]
        exact ⟨q, by omega, eq⟩
      · obtain ⟨q', a, b⟩ := h k (by omega)
        exact ⟨q', by omega, b⟩
theorem zp_next {post : Int32 → Prop} {lev cc o c : Nat} {L : Nat → Nat} (hv : lev < 8) (hL : ∀ k, k < lev + 1 → a7 k = nI (L k) ∧ L k < 8) (hq : ∀ k, k < lev → ∃ q, q < 8 ∧ a5 (L k) = nI q) (hc : cc ≤ 8) (ho : o ≤ 8) (hc0 : c ≤ 8)
    (H0 : post (-1)) (H1 : ∀ d, d ≤ o → o < cc → d + 1 < cc → (∀ k, k < lev → zb_t (a4 (L lev)) (L k) = true → ¬ a5 (L k) = nI d) → post (nI d)) :
    wpX_nextColour post (f0, fb, fl, nI cc, a1, a2, a3, a4, a5, a6, a7, a8, a9, a10, a11, a12, a13, a14) (nI lev) (nI c) (nI o) := by
  refine pk_lt o cc (fun hoc => ?_) (fun _ => H0)
  refine pk_loop (fun f i (x : Int32) => wX_nextColour_16 post (nI lev) (nI c) (nI o) f0 fb fl (nI cc) a1 a2 a3 a4 a5 a6 a7 a8 a9 a10 a11 a12 a13 a14 f x (nI i)) (fun i x => ∀ k, k < i → zb_t (a4 (L lev)) (L k) = true → ∀ q, q < 8 → a5 (L k) = nI q → zb_t x q = true) lev 0 0 (by omega) (fun k hk => absurd hk (by omega)) ?_ ?_
  · intro f x h
    refine pk_le lev lev (fun _ => ?_) (fun z => absurd z (by omega))
    obtain ⟨c1, rfl⟩ : ∃ c1, cc = c1 + 1 := ⟨cc - 1, by omega⟩
    refine pk_loop (σ := Unit) (fun g i _ => wX_nextColour_74 post (nI o) x f0 fb fl (nI (c1 + 1)) a1 a2 a3 a4 a5 a6 a7 a8 a9 a10 a11 a12 a13 a14 g (nI i)) (fun _ _ => True) 9 c () (by omega) trivial ?_ ?_
    · intro g _ _
      exact pk_lt o 9 (fun _ => H0) (fun z => absurd z (by omega))
    · intro g i _ hi _ hw
      refine pk_lt o i (fun _ => H0) (fun z => pk_le c1 i (fun _ => H0) (fun z2 => br_c (fun hb => ?_) (fun _ => nm_r (nI_1 i) (hw () trivial))) (nI_pred c1))
      have hb' := (zb_t0 (by omega)).mp hb
      refine H1 i z hoc (by omega) (fun k hk hbit he => ?_)
      have q := h k hk hbit i (by omega) he
      rw [hb'] at q
      exact absurd q (by decide)
  · intro f i x hi h hw
    obtain ⟨e7, h7⟩ := hL lev (by omega)
    obtain ⟨e7i, h7i⟩ := hL i (by omega)
    obtain ⟨q, hq8, eq⟩ := hq i hi
    refine pk_le lev i (fun z => absurd z (by omega)) (fun _ => ⟨pk_in lev 8 hv, ?_⟩)
    rw [nI_clamp (show lev < 2 ^ 31 by omega), nI_clamp (show i < 2 ^ 31 by omega), e7, e7i]
    refine ⟨pk_in (L lev) 8 h7, pk_in i 8 (by omega), ?_⟩
    rw [nI_clamp (show L lev < 2 ^ 31 by omega), nI_clamp (show L i < 2 ^ 31 by omega), eq]
    refine br_c (fun hb => nm_r (nI_1 i) (hw x (fun k hk hbit q' hq' e' => ?_))) (fun hb => ⟨pk_in i 8 (by omega), pk_in (L i) 8 h7i, nm_e (nm_r (nI_1 i) (hw _ (fun k hk hbit q' hq' e' => ?_)))⟩)
    · have hb' := (zb_t0 (by omega)).mp hb
      by_cases ek : k = i
      · rw [ek, hb'] at hbit
        exact absurd hbit (by decide)
      · exact h k (by omega) hbit q' hq' e'
    · rw [zb_set x (by omega)]
      by_cases ek : k = i
      · rw [ek] at e'
        have e2 := (nI_eq (by omega) (by omega)).mp (eq.symm.trans e')
        rw [decide_eq_true e2.symm, Bool.or_true]
      · rw [h k (by omega) hbit q' hq' e', Bool.true_or]
theorem zp_keep {post : St1 → Prop} {l : Nat} {L : Nat → Nat} {p : Int32} (hl : l ≤ 8) (hL : ∀ k, k < l → a7 k = nI (L k) ∧ L k < 8) (hq : ∀ k, k < l → ∃ q, q < 8 ∧ a5 (L k) = nI q)
    (hd : ∀ j k, j < k → k < l → ¬ L j = L k)
    (H : ∀ b6, (∀ k, k < l → b6 (L k) = a5 (L k)) → (∀ t, (∀ k, k < l → ¬ L k = t) → b6 t = a6 t) → post (f0, fb, nI l, p, a1, a2, a3, a4, a5, b6, a7, a8, a9, a10, a11, a12, a13, a14)) : wpX_keep post (f0, fb, nI l, fq, a1, a2, a3, a4, a5, a6, a7, a8, a9, a10, a11, a12, a13, a14) p := by
  show ∃ f, wX_keep_7 post f0 fb (nI l) p f 0 a1 a2 a3 a4 a5 a6 a7 a8 a9 a10 a11 a12 a13 a14
  refine pk_loop (fun f i (s : Nat → Int32) => wX_keep_7 post f0 fb (nI l) p f (nI i) a1 a2 a3 a4 a5 s a7 a8 a9 a10 a11 a12 a13 a14) (fun i s => (∀ k, k < i → s (L k) = a5 (L k)) ∧ ∀ t, (∀ k, k < i → ¬ L k = t) → s t = a6 t) l 0 a6 (by omega) ⟨fun k hk => absurd hk (by omega), fun t _ => rfl⟩ ?_ ?_
  · intro f s h
    exact pk_le l l (fun _ => H s h.1 h.2) (fun z => absurd z (by omega))
  · intro f i s hi h hw
    obtain ⟨e7, h7⟩ := hL i hi
    obtain ⟨q, hq8, eq⟩ := hq i hi
    refine pk_le l i (fun z => absurd z (by omega)) (fun _ => ⟨pk_in i 8 (by omega), pk_in i 8 (by omega), ?_⟩)
    rw [nI_clamp (show i < 2 ^ 31 by omega), e7]
    refine ⟨pk_in (L i) 8 h7, pk_in (L i) 8 h7, ?_⟩
    rw [nI_clamp (show L i < 2 ^ 31 by omega), eq, zb_n8 (by omega)]
    refine nm_e (nm_r (nI_1 i) (hw _ ⟨fun k hk => ?_, fun t ht => ?_⟩))
    · by_cases ek : k = i
      · rw [ek, pk_us, eq]
      · rw [pk_un (hd k i (by omega) hi)]
        exact h.1 k (by omega)
    · rw [pk_un (fun z => ht i (by omega) z.symm)]
      exact h.2 t (fun k hk => ht k (by omega))
end
end
section
section
variable {f0 fb fl fq : Int32} {a1 a2 a3 a4 a5 a6 a7 a8 a9 a10 a11 a12 a13 a14 : Nat → Int32}
/-! ===== the search for colours ===== -/
def zp_B (l : Nat) (L : Nat → Nat) (a4 : Nat → Int32) (cc : Nat) (b6 : Nat → Int32) : Prop :=
  (∀ s, s < 8 → ∃ b, b < 8 ∧ b6 s = nI b) ∧ (∀ k, k < l → ∃ b, b < cc ∧ b6 (L k) = nI b) ∧ (∀ j k, j < k → k < l → zb_t (a4 (L k)) (L j) = true → ¬ b6 (L j) = b6 (L k))
def zp_C (lev : Nat) (L : Nat → Nat) (a4 a5 : Nat → Int32) : Prop :=
  (∀ k, k < lev → ∃ q, q < 8 ∧ a5 (L k) = nI q) ∧ (∀ j k, j < k → k < lev → zb_t (a4 (L k)) (L j) = true → ¬ a5 (L j) = a5 (L k))
def zp_X (l : Nat) (L : Nat → Nat) (a4 a5 : Nat → Int32) (x1 : Int32) : Prop :=
  x1 < 0 ∨ l = 0 ∨ ∃ lev, x1 = nI lev ∧ lev < l ∧ zp_C lev L a4 a5 ∧ (a5 (L lev) = -1 ∨ ∃ q, q < 8 ∧ a5 (L lev) = nI q)
def zp_F (n : Nat) (O : Nat → Nat → Nat) (cc : Nat) (b6 : Nat → Int32) (be : Nat → Nat) : Prop :=
  cc ≤ 8 ∧ (∀ s, s < 8 → b6 s = nI (be s) ∧ be s < 8) ∧ (∀ s, s < 8 → zm_P n O s s → be s < cc) ∧ (∀ s t, s < 8 → t < 8 → zm_P n O s t → be s = be t → s = t)
theorem zp_Ccg {lev : Nat} {L : Nat → Nat} {b5 : Nat → Int32} (h : zp_C lev L a4 a5) (e : ∀ k, k < lev → b5 (L k) = a5 (L k)) : zp_C lev L a4 b5 :=
  ⟨fun k hk => by rw [e k hk]; exact h.1 k hk, fun j k hj hk hb => by rw [e k hk, e j (by omega)]; exact h.2 j k hj hk hb⟩
theorem zp_Cle {lev lev' : Nat} {L : Nat → Nat} (h : zp_C lev L a4 a5) (e : lev' ≤ lev) : zp_C lev' L a4 a5 :=
  ⟨fun k hk => h.1 k (by omega), fun j k hj hk hb => h.2 j k hj (by omega) hb⟩
theorem zp_Cup {lev d : Nat} {L : Nat → Nat} (h : zp_C lev L a4 a5) (hd : d < 8) (hL : ∀ k, k < lev → ¬ L k = L lev)
    (hc : ∀ k, k < lev → zb_t (a4 (L lev)) (L k) = true → ¬ a5 (L k) = nI d) : zp_C (lev + 1) L a4 (upd a5 (L lev) (nI d)) := by
  refine ⟨fun k hk => ?_, fun j k hj hk hb => ?_⟩
  · by_cases ek : k = lev
    · rw [ek, pk_us]
      exact ⟨d, hd, rfl⟩
    · rw [pk_un (hL k (by omega))]
      exact h.1 k (by omega)
  · by_cases ek : k = lev
    · rw [ek] at hb hj ⊢
      rw [pk_us, pk_un (hL j hj)]
      exact hc j hj hb
    · rw [pk_un (hL k (by omega)), pk_un (hL j (by omega))]
      exact h.2 j k hj (by omega) hb
theorem zp_dn {l lev : Nat} {L : Nat → Nat} (h : zp_C lev L a4 a5) (hl : lev < l) : zp_X l L a4 a5 (nI lev + (-1)) := by
  cases lev with
  | zero => exact Or.inl (by decide)
  | succ v =>
    rw [pk_m1]
    exact Or.inr (Or.inr ⟨v, rfl, by omega, zp_Cle h (by omega), Or.inr (h.1 v (by omega))⟩)
theorem zp_64 {post : St1 → Prop} {l : Nat} {L : Nat → Nat} (hl : l ≤ 8) (hL : ∀ k, k < l → a7 k = nI (L k) ∧ L k < 8) (hd : ∀ j k, j < k → k < l → ¬ L j = L k)
    (H : ∀ cc b5 b6, cc ≤ 8 → zp_B l L a4 cc b6 → post (f0, fb, nI l, nI cc, a1, a2, a3, a4, b5, b6, a7, a8, a9, a10, a11, a12, a13, a14))
    {cc : Nat} {b5 b6 : Nat → Int32} {x1 : Int32} (hcc : cc ≤ 8) (hB : zp_B l L a4 cc b6) (hX : zp_X l L a4 b5 x1) :
    ∃ f, wX_paint_64 post f x1 0 f0 fb (nI l) (nI cc) a1 a2 a3 a4 b5 b6 a7 a8 a9 a10 a11 a12 a13 a14 := by
  refine pk_loop (fun f i (s : Int32 × Int32 × (Nat → Int32) × (Nat → Int32)) => wX_paint_64 post f s.1 (nI i) f0 fb (nI l) s.2.1 a1 a2 a3 a4 s.2.2.1 s.2.2.2 a7 a8 a9 a10 a11 a12 a13 a14) (fun _ s => ∃ cc, s.2.1 = nI cc ∧ cc ≤ 8 ∧ zp_B l L a4 cc s.2.2.2 ∧ zp_X l L a4 s.2.2.1 s.1) 65536 0 (x1, nI cc, b5, b6) (by omega) ⟨cc, rfl, hcc, hB, hX⟩ ?_ ?_
  · rintro f ⟨y, z, c5, c6⟩ ⟨cc, ec, hcc, hB, hX⟩
    dsimp only at ec hB hX
    subst ec
    exact pk_le 65536 65536 (fun _ => H cc c5 c6 hcc hB) (fun z => absurd z (by omega))
  · rintro f i ⟨y, z, c5, c6⟩ hi ⟨cc, ec, hcc, hB, hX⟩ hw
    dsimp only at ec hB hX
    subst ec
    have hw' : ∀ y' cc' b5' b6', cc' ≤ 8 → zp_B l L a4 cc' b6' → zp_X l L a4 b5' y' → wX_paint_64 post f y' (nI (i + 1)) f0 fb (nI l) (nI cc') a1 a2 a3 a4 b5' b6' a7 a8 a9 a10 a11 a12 a13 a14 := fun y' cc' b5' b6' k1 k2 k3 => hw (y', nI cc', b5', b6') ⟨cc', rfl, k1, k2, k3⟩
    show wX_paint_64 post (f + 1) y (nI i) f0 fb (nI l) (nI cc) a1 a2 a3 a4 c5 c6 a7 a8 a9 a10 a11 a12 a13 a14
    refine pk_le 65536 i (fun z => absurd z (by omega)) (fun _ => br_c (fun _ => H cc c5 c6 hcc hB) (fun hy => pk_le l 0 (fun _ => H cc c5 c6 hcc hB) (fun hl0 => ?_)))
    rcases hX with hX | hX | ⟨lev, rfl, hlev, hC, hv⟩
    · exact absurd hX hy
    · omega
    obtain ⟨e7, h7⟩ := hL lev hlev
    refine ⟨pk_in lev 8 (by omega), nm_r (e' := nI (L lev)) (by rw [nI_clamp (by omega)]; exact e7) ?_⟩
    refine zp_opened (by omega) (fun k hk => hL k (by omega)) hC.1 (fun o ho8 ho => ⟨pk_in (L lev) 8 h7, ?_⟩)
    rw [nI_clamp (show L lev < 2 ^ 31 by omega)]
    obtain ⟨c, hc8, ec⟩ : ∃ c, c ≤ 8 ∧ c5 (L lev) + 1 = nI c := by
      rcases hv with hv | ⟨q, hq, hv⟩
      · exact ⟨0, by omega, by rw [hv]; rfl⟩
      · exact ⟨q + 1, by omega, by rw [hv, nI_1]⟩
    rw [ec]
    refine zp_next (by omega) (fun k hk => hL k (by omega)) hC.1 hcc ho8 hc8 ?_ (fun d hdo hoc hdc hno => ?_)
    · exact ⟨pk_in (L lev) 8 h7, nm_r (e' := upd c5 (L lev) (-1)) (by rw [show (-1 : Int32).toInt8.toInt32 = -1 from by decide]) (br_f (by decide) (nm_e (nm_r (nI_1 i) (hw' _ cc _ _ hcc hB (zp_dn (zp_Ccg hC (fun k hk => pk_un (hd k lev hk hlev))) hlev)))))⟩
    · have hC' := zp_Cup hC (show d < 8 by omega) (fun k hk => hd k lev hk hlev) hno
      have hC2 := zp_Ccg hC (b5 := upd c5 (L lev) (nI d)) (fun k hk => pk_un (hd k lev hk hlev))
      have K : ∀ m, m ≤ 8 → lev + 1 = l → (∀ k, k < l → ∃ q, q < m ∧ upd c5 (L lev) (nI d) (L k) = nI q) → wX_paint_159 post (wX_paint_64 post f) (nI lev) (nI i) (nI m) f0 fb (nI l) (nI cc) a1 a2 a3 a4 (upd c5 (L lev) (nI d)) c6 a7 a8 a9 a10 a11 a12 a13 a14 := by
        intro m hm hll hk
        unfold wX_paint_159
        rw [hll] at hC'
        refine zp_keep hl hL hC'.1 hd (fun g6 h1 h2 => nm_e (nm_r (nI_1 i) (hw' _ m _ _ hm ⟨fun s hs => ?_, fun k hk' => ?_, fun j k hj hk' hb => ?_⟩ (zp_dn hC2 hlev))))
        · by_cases hx : ∃ k, k < l ∧ L k = s
          · obtain ⟨k, a, b⟩ := hx
            rw [← b, h1 k a]
            exact hC'.1 k a
          · rw [h2 s (fun k a b => hx ⟨k, a, b⟩)]
            exact hB.1 s hs
        · rw [h1 k hk']
          exact hk k hk'
        · rw [h1 k hk', h1 j (by omega)]
          exact hC'.2 j k hj hk' hb
      refine ⟨pk_in (L lev) 8 h7, nm_r (e' := upd c5 (L lev) (nI d)) (by rw [zb_k8 d (by omega)]) (br_t (nI_pos' (by omega)) (pk_eq lev (l - 1) (fun ez => ?_) (fun ez => ?_) rfl (by rw [show l = (l - 1) + 1 by omega, nI_pred]; rfl)))⟩
      · have hk : ∀ m, o ≤ m → d < m → ∀ k, k < l → ∃ q, q < m ∧ upd c5 (L lev) (nI d) (L k) = nI q := by
          intro m hom hdm k hk
          by_cases ek : k = lev
          · rw [ek, pk_us]
            exact ⟨d, hdm, rfl⟩
          · rw [pk_un (hd k lev (by omega) hlev)]
            obtain ⟨q, a, b⟩ := ho k (by omega)
            exact ⟨q, by omega, b⟩
        refine pk_le o d (fun z => ?_) (fun z => K o ho8 (by omega) (hk o (by omega) z))
        rw [nI_1 o]
        exact K (o + 1) (by omega) (by omega) (hk (o + 1) (by omega) (by omega))
      · obtain ⟨e7', h7'⟩ := hL (lev + 1) (by omega)
        refine nm_r (nI_1 lev) ⟨pk_in (lev + 1) 8 (by omega), ?_⟩
        rw [nI_clamp (show lev + 1 < 2 ^ 31 by omega), e7']
        refine ⟨pk_in (L (lev + 1)) 8 h7', ?_⟩
        rw [nI_clamp (show L (lev + 1) < 2 ^ 31 by omega)]
        exact nm_e (nm_r (nI_1 i) (hw' _ cc _ _ hcc hB (Or.inr (Or.inr ⟨lev + 1, rfl, by omega, zp_Ccg hC' (fun k hk => pk_un (hd k (lev + 1) hk (by omega))), Or.inl pk_us⟩))))
theorem zp_14 {post : St1 → Prop} {l : Nat} {L : Nat → Nat} (hl : l ≤ 8) (hL : ∀ k, k < l → a7 k = nI (L k) ∧ L k < 8) (hd : ∀ j k, j < k → k < l → ¬ L j = L k) (h6 : ∀ s, s < 8 → ∃ b, b < 8 ∧ a6 s = nI b)
    (H : ∀ cc b5 b6, cc ≤ 8 → zp_B l L a4 cc b6 → post (f0, fb, nI l, nI cc, a1, a2, a3, a4, b5, b6, a7, a8, a9, a10, a11, a12, a13, a14)) :
    ∃ f, wX_paint_14 post f0 fb (nI l) (nI l) f 0 a1 a2 a3 a4 a5 a6 a7 a8 a9 a10 a11 a12 a13 a14 := by
  refine pk_loop (fun f i (s : Nat → Int32) => wX_paint_14 post f0 fb (nI l) (nI l) f (nI i) a1 a2 a3 a4 a5 s a7 a8 a9 a10 a11 a12 a13 a14) (fun i s => (∀ k, k < i → s (L k) = nI k) ∧ ∀ t, (∀ k, k < i → ¬ L k = t) → s t = a6 t) l 0 a6 (by omega) ⟨fun k hk => absurd hk (by omega), fun t _ => rfl⟩ ?_ ?_
  · intro f s h
    have hB : zp_B l L a4 l s := by
      refine ⟨fun t ht => ?_, fun k hk => ⟨k, hk, h.1 k hk⟩, fun j k hj hk _ => ?_⟩
      · by_cases hx : ∃ k, k < l ∧ L k = t
        · obtain ⟨k, a, b⟩ := hx
          rw [← b, h.1 k a]
          exact ⟨k, by omega, rfl⟩
        · rw [h.2 t (fun k a b => hx ⟨k, a, b⟩)]
          exact h6 t ht
      · rw [h.1 k hk, h.1 j (by omega), nI_eq (by omega) (by omega)]
        omega
    refine pk_le l l (fun _ => pk_le l 0 (fun z => zp_64 hl hL hd H hl hB (Or.inr (Or.inl (by omega)))) (fun z => ?_)) (fun z => absurd z (by omega))
    obtain ⟨e7, h7⟩ := hL 0 z
    rw [e7]
    refine ⟨pk_in (L 0) 8 h7, ?_⟩
    rw [nI_clamp (by omega)]
    exact nm_e (zp_64 hl hL hd H hl hB (Or.inr (Or.inr ⟨0, rfl, z, ⟨fun k hk => absurd hk (by omega), fun j k _ hk => absurd hk (by omega)⟩, Or.inl pk_us⟩)))
  · intro f i s hi h hw
    obtain ⟨e7, h7⟩ := hL i hi
    refine pk_le l i (fun z => absurd z (by omega)) (fun _ => ⟨pk_in i 8 (by omega), ?_⟩)
    rw [nI_clamp (show i < 2 ^ 31 by omega), e7]
    refine ⟨pk_in (L i) 8 h7, nm_r (e' := upd s (L i) (nI i)) (by rw [nI_clamp (by omega), zb_k8 i (by omega)]) (nm_r (nI_1 i) (hw _ ⟨fun k hk => ?_, fun t ht => ?_⟩))⟩
    · by_cases ek : k = i
      · rw [ek, pk_us]
      · rw [pk_un (hd k i (by omega) hi)]
        exact h.1 k (by omega)
    · rw [pk_un (fun z => ht i (by omega) z.symm)]
      exact h.2 t (fun k hk => ht k (by omega))
theorem zm_Ps {n : Nat} {O : Nat → Nat → Nat} {s t : Nat} (h : zm_P n O s t) : zm_P n O t s := by
  obtain ⟨c, a, b, d⟩ := h
  exact ⟨c, a, d, b⟩
theorem zm_Pl {n : Nat} {O : Nat → Nat → Nat} {s t : Nat} (h : zm_P n O s t) : zm_P n O s s := by
  obtain ⟨c, a, b, d⟩ := h
  exact ⟨c, a, b, b⟩
theorem zp_fin {n l cc : Nat} {O : Nat → Nat → Nat} {L : Nat → Nat} {b6 b7 : Nat → Int32} (h4 : ∀ s, s < 8 → zm_M n O a4 s) (hL : zn_L n O l b7 L) (hB : zp_B l L a4 cc b6) (hc : cc ≤ 8) :
    zp_F n O cc b6 (fun s => (b6 s).toNatClampNeg) := by
  have e : ∀ s b, b < 8 → b6 s = nI b → (b6 s).toNatClampNeg = b := fun s b hb eb => by rw [eb, nI_clamp (by omega)]
  have key : ∀ j k, j < k → k < l → zm_P n O (L k) (L j) → ¬ (b6 (L j)).toNatClampNeg = (b6 (L k)).toNatClampNeg := by
    intro j k hj hk hP z
    obtain ⟨b1, c1, d1⟩ := hB.2.1 k hk
    obtain ⟨b2, c2, d2⟩ := hB.2.1 j (by omega)
    refine hB.2.2 j k hj hk (((h4 (L k) (hL.2.1 k hk).2).2 (L j) (hL.2.1 j (by omega)).2).mpr hP) ?_
    rw [e _ b1 (by omega) d1, e _ b2 (by omega) d2] at z
    rw [d1, d2, z]
  refine ⟨hc, fun s hs => ?_, fun s hs hP => ?_, fun s t hs ht hP he => ?_⟩
  · obtain ⟨b, hb, eb⟩ := hB.1 s hs
    dsimp only
    rw [e s b hb eb]
    exact ⟨eb, hb⟩
  · obtain ⟨k, hk, ek⟩ := hL.2.2.2 s hs hP
    obtain ⟨b, hb, eb⟩ := hB.2.1 k hk
    dsimp only
    rw [← ek, e _ b (by omega) eb]
    exact hb
  · obtain ⟨k, hk, ek⟩ := hL.2.2.2 s hs (zm_Pl hP)
    obtain ⟨j, hj, ej⟩ := hL.2.2.2 t ht (zm_Pl (zm_Ps hP))
    rw [← ek, ← ej] at hP he ⊢
    dsimp only at he
    rcases Nat.lt_trichotomy j k with z | z | z
    · exact absurd he.symm (key j k z hk hP)
    · rw [z]
    · exact absurd he (key k j z hj (zm_Ps hP))
theorem zp_paint {post : St1 → Prop} {n : Nat} {O : Nat → Nat → Nat} (h4 : ∀ s, s < 8 → zm_M n O a4 s) (h6 : ∀ s, s < 8 → ∃ b, b < 8 ∧ a6 s = nI b)
    (H : ∀ l cc b5 b6 b7 be, zp_F n O cc b6 be → post (f0, fb, nI l, nI cc, a1, a2, a3, a4, b5, b6, b7, a8, a9, a10, a11, a12, a13, a14)) : wpX_paint post (f0, fb, fl, fq, a1, a2, a3, a4, a5, a6, a7, a8, a9, a10, a11, a12, a13, a14) := by
  unfold wpX_paint
  dsimp only
  refine zn_line h4 (fun l b7 L hL => ?_)
  exact zp_14 hL.1 hL.2.1 hL.2.2.1 h6 (fun cc b5 b6 hc hB => H l cc b5 b6 b7 _ (zp_fin h4 hL hB hc))
end
end
section
section
variable {f0 fb fl fq : Int32} {a1 a2 a3 a4 a5 a6 a7 a8 a9 a10 a11 a12 a13 a14 : Nat → Int32}
/-! ===== packing ===== -/
def zq_I (a2 : Nat → Int32) (O : Nat → Nat → Nat) (D be sh : Nat → Nat) (k : Nat) (a8 a9 a10 a11 a12 : Nat → Int32) : Prop :=
  (∀ j, j < k → a8 (D j) = nI (sh (D j)) ∧ sh (D j) ≤ 8 * j) ∧
  (∀ j s, j < k → s < 8 → O (D j) s < 10 → a9 (sh (D j) + be s) = nI (D j) ∧ a10 (sh (D j) + be s) = nI s ∧ a11 (sh (D j) + be s) = nI (O (D j) s) ∧ a12 (sh (D j) + be s) = a2 (O (D j) s * 8 + s)) ∧
  (∀ i, i < 96 → a9 i = -1 ∨ ∃ j s, j < k ∧ s < 8 ∧ O (D j) s < 10 ∧ a9 i = nI (D j) ∧ a10 i = nI s ∧ i < 8 * k)
def zq_W (a2 : Nat → Int32) (O : Nat → Nat → Nat) (be : Nat → Nat) (c h m : Nat) (a9 a10 a11 a12 b9 b10 b11 b12 : Nat → Int32) : Prop :=
  (∀ t, t < m → O c t < 10 → b9 (h + be t) = nI c ∧ b10 (h + be t) = nI t ∧ b11 (h + be t) = nI (O c t) ∧ b12 (h + be t) = a2 (O c t * 8 + t)) ∧
  (∀ i, (∀ t, t < m → O c t < 10 → ¬ i = h + be t) → b9 i = a9 i ∧ b10 i = a10 i ∧ b11 i = a11 i ∧ b12 i = a12 i)
theorem zq_fill {post : St1 → Prop} {n k : Nat} {O : Nat → Nat → Nat} {D be sh : Nat → Nat} (hn : n ≤ 10) (hp : zs_par n a1) (hO : zo_ok n a1 a2 O) (hD : zs_D n a1 a14 D)
    (h3 : ∀ c, c < n → zl_K O a3 c) (h6 : ∀ s, s < 8 → a6 s = nI (be s) ∧ be s < 8) (hI : zq_I a2 O D be sh k a8 a9 a10 a11 a12) (hk : k < n)
    (H : ∀ b13, (∀ s, s < 8 → O (D k) s < 10 → b13 s = nI (O (D k) s)) → post (nI n, fb, fl, fq, a1, a2, a3, a4, a5, a6, a7, a8, a9, a10, a11, a12, b13, a14)) : wpX_fillRow post (nI n, fb, fl, fq, a1, a2, a3, a4, a5, a6, a7, a8, a9, a10, a11, a12, a13, a14) (nI (D k)) := by
  have hDk := (hD.1 k hk).2
  unfold wpX_fillRow
  dsimp only
  refine zo_own (by omega) (fun x hx => ?_)
  refine pk_loop (fun f i (s : Nat → Int32) => wX_fillRow_8 post (nI (D k)) x (nI n) fb fl fq f (nI i) a1 a2 a3 a4 a5 a6 a7 a8 a9 a10 a11 a12 s a14) (fun i s => ∀ t, t < i → O (D k) t < 10 → s t = nI (O (D k) t)) 8 0 a13 (by omega) (fun t ht => absurd ht (by omega)) ?_ ?_
  · intro f s h
    exact pk_le 8 8 (fun _ => H s h) (fun z => absurd z (by omega))
  · intro f i s hi h hw
    have k3 := h3 (D k) hDk
    have upd' : ∀ v, (O (D k) i < 10 → v = nI (O (D k) i)) → wX_fillRow_8 post (nI (D k)) x (nI n) fb fl fq f (nI (i + 1)) a1 a2 a3 a4 a5 a6 a7 a8 a9 a10 a11 a12 (upd s i v) a14 := by
      intro v hv
      refine hw _ (fun t ht hot => ?_)
      by_cases et : t = i
      · rw [et] at hot ⊢
        rw [pk_us]
        exact hv hot
      · rw [pk_un et]
        exact h t (by omega) hot
    refine pk_le 8 i (fun z => absurd z (by omega)) (fun _ => ⟨pk_in (D k) 10 (by omega), ?_⟩)
    rw [nI_clamp (show D k < 2 ^ 31 by omega)]
    refine br_c (fun hb => nm_r (nI_1 i) (hw s (fun t ht hot => ?_))) (fun hb => br_c (fun hm => ?_) (fun hm => ?_))
    · have hb' := (zb_t0 (by omega)).mp hb
      rw [k3.2 i hi] at hb'
      by_cases et : t = i
      · rw [et] at hot
        exact absurd hot (of_decide_eq_false hb')
      · exact h t (by omega) hot
    · have hb' := (zb_n0 (by omega)).mp hb
      rw [k3.2 i hi] at hb'
      have hoi : O (D k) i < 10 := of_decide_eq_true hb'
      have hm' := (zb_t0 (by omega)).mp hm
      rw [hx i, decide_eq_true hi, Bool.true_and] at hm'
      have hd : a2 (D k * 8 + i) = 0 := by
        by_cases hd : a2 (D k * 8 + i) = 0
        · exact hd
        · rw [decide_eq_false hd] at hm'
          exact absurd hm' (by decide)
      rcases hp (D k) hDk with e1 | ⟨p, hpn, e1⟩
      · have q := hO.2.1 _ _ hDk hd e1
        omega
      · obtain ⟨j, hj, ej⟩ := hD.2.2.1 k p hk hpn e1
        have eo := hO.2.2.1 _ _ p hDk hpn hd e1
        obtain ⟨e8, h8⟩ := hI.1 j hj
        rw [ej] at e8 h8
        obtain ⟨e6, h6i⟩ := h6 i hi
        have r := (hI.2.1 j i hj hi (by rw [ej, ← eo]; exact hoi)).2.2.1
        rw [ej] at r
        unfold wX_fillRow_40
        refine br_t rfl ⟨pk_in (D k) 10 (by omega), ?_⟩
        rw [nI_clamp (show D k < 2 ^ 31 by omega), e1]
        refine ⟨pk_in p 10 (by omega), pk_in i 8 hi, ?_⟩
        rw [nI_clamp (show p < 2 ^ 31 by omega), nI_clamp (show i < 2 ^ 31 by omega), e8, e6, nI_add]
        refine ⟨pk_in (sh p + be i) 96 (by omega), pk_in i 8 hi, ?_⟩
        rw [nI_clamp (show sh p + be i < 2 ^ 31 by omega), r, zb_n8 (by omega)]
        exact nm_e (nm_r (nI_1 i) (upd' _ (fun _ => by rw [eo])))
    · have hm' := (zb_n0 (by omega)).mp hm
      rw [hx i, decide_eq_true hi, Bool.true_and] at hm'
      have hd : ¬ a2 (D k * 8 + i) = 0 := by
        intro hd
        rw [decide_eq_true hd] at hm'
        exact absurd hm' (by decide)
      unfold wX_fillRow_40
      refine br_f (by decide) ⟨pk_in i 8 hi, ?_⟩
      rw [nI_clamp (show i < 2 ^ 31 by omega), zb_k8 (D k) (by omega)]
      exact nm_e (nm_r (nI_1 i) (upd' _ (fun _ => by rw [hO.1 _ _ hDk hd])))
theorem zq_fits {post : Int32 → Prop} {c h : Nat} {O : Nat → Nat → Nat} {be : Nat → Nat} (hc : c < 10) (h3 : zl_K O a3 c) (h6 : ∀ s, s < 8 → a6 s = nI (be s) ∧ be s < 8) (hh : h ≤ 88)
    (H1 : (∀ s, s < 8 → O c s < 10 → a9 (h + be s) < 0) → post 1) (H0 : ∀ s, s < 8 → O c s < 10 → ¬ a9 (h + be s) < 0 → post 0) : wpX_fits post (f0, fb, fl, fq, a1, a2, a3, a4, a5, a6, a7, a8, a9, a10, a11, a12, a13, a14) (nI c) (nI h) := by
  show ∃ f, wX_fits_2 post (nI c) (nI h) f0 fb fl fq a1 a2 a3 a4 a5 a6 a7 a8 a9 a10 a11 a12 a13 a14 f 0
  refine pk_loop (σ := Unit) (fun f i _ => wX_fits_2 post (nI c) (nI h) f0 fb fl fq a1 a2 a3 a4 a5 a6 a7 a8 a9 a10 a11 a12 a13 a14 f (nI i)) (fun i _ => ∀ s, s < i → O c s < 10 → a9 (h + be s) < 0) 8 0 () (by omega) (fun s hs => absurd hs (by omega)) ?_ ?_
  · intro f _ g
    exact pk_le 8 8 (fun _ => H1 g) (fun z => absurd z (by omega))
  · intro f i _ hi g hw
    obtain ⟨e6, h6i⟩ := h6 i hi
    refine pk_le 8 i (fun z => absurd z (by omega)) (fun _ => ⟨pk_in c 10 hc, ?_⟩)
    rw [nI_clamp (show c < 2 ^ 31 by omega), nI_clamp (show i < 2 ^ 31 by omega), e6, nI_add, nI_clamp (show h + be i < 2 ^ 31 by omega)]
    refine br_c (fun hb => nm_r (nI_1 i) (hw () (fun s hs hos => ?_))) (fun hb => ⟨pk_in i 8 hi, pk_in (h + be i) 96 (by omega), br_c (fun hz => nm_r (nI_1 i) (hw () (fun s hs hos => ?_))) (fun hz => H0 i hi ?_ hz)⟩)
    · have hb' := (zb_t0 (by omega)).mp hb
      rw [h3.2 i hi] at hb'
      by_cases es : s = i
      · rw [es] at hos
        exact absurd hos (of_decide_eq_false hb')
      · exact g s (by omega) hos
    · by_cases es : s = i
      · rw [es]
        exact hz
      · exact g s (by omega) hos
    · have hb' := (zb_n0 (by omega)).mp hb
      rw [h3.2 i hi] at hb'
      exact of_decide_eq_true hb'
theorem zq_43 {post : St1 → Prop} {c h : Nat} {O : Nat → Nat → Nat} {be : Nat → Nat} (hc : c < 10) (h3 : zl_K O a3 c) (h6 : ∀ s, s < 8 → a6 s = nI (be s) ∧ be s < 8) (hh : h ≤ 88)
    (h13 : ∀ s, s < 8 → O c s < 10 → a13 s = nI (O c s)) (hcel : zs_cel a2) (hinj : ∀ s t, s < 8 → t < 8 → O c s < 10 → O c t < 10 → be s = be t → s = t)
    (H : ∀ b9 b10 b11 b12, zq_W a2 O be c h 8 a9 a10 a11 a12 b9 b10 b11 b12 → post (f0, fb, fl, fq, a1, a2, a3, a4, a5, a6, a7, a8, b9, b10, b11, b12, a13, a14)) :
    ∃ f, wX_pack_43 post (nI c) (nI h) f0 fb fl fq f 0 a1 a2 a3 a4 a5 a6 a7 a8 a9 a10 a11 a12 a13 a14 := by
  refine pk_loop (fun f i (s : (Nat → Int32) × (Nat → Int32) × (Nat → Int32) × (Nat → Int32)) => wX_pack_43 post (nI c) (nI h) f0 fb fl fq f (nI i) a1 a2 a3 a4 a5 a6 a7 a8 s.1 s.2.1 s.2.2.1 s.2.2.2 a13 a14) (fun i s => zq_W a2 O be c h i a9 a10 a11 a12 s.1 s.2.1 s.2.2.1 s.2.2.2) 8 0 (a9, a10, a11, a12) (by omega) ⟨fun t ht => absurd ht (by omega), fun i _ => ⟨rfl, rfl, rfl, rfl⟩⟩ ?_ ?_
  · rintro f ⟨b9, b10, b11, b12⟩ g
    exact pk_le 8 8 (fun _ => H b9 b10 b11 b12 g) (fun z => absurd z (by omega))
  · rintro f i ⟨b9, b10, b11, b12⟩ hi g hw
    dsimp only at g
    obtain ⟨e6, h6i⟩ := h6 i hi
    refine pk_le 8 i (fun z => absurd z (by omega)) (fun _ => ⟨pk_in c 10 hc, ?_⟩)
    dsimp only
    rw [nI_clamp (show c < 2 ^ 31 by omega)]
    refine br_c (fun hb => nm_r (nI_1 i) (hw (b9, b10, b11, b12) ⟨fun t ht hot => ?_, fun j hj => ?_⟩)) (fun hb => ⟨pk_in i 8 hi, nm_r (e' := nI (h + be i)) (by rw [nI_clamp (by omega), e6, nI_add]) ⟨pk_in i 8 hi, ?_⟩⟩)
    · have hb' := (zb_t0 (by omega)).mp hb
      rw [h3.2 i hi] at hb'
      by_cases et : t = i
      · rw [et] at hot
        exact absurd hot (of_decide_eq_false hb')
      · exact g.1 t (by omega) hot
    · exact g.2 j (fun t ht => hj t (by omega))
    · have hb' := (zb_n0 (by omega)).mp hb
      rw [h3.2 i hi] at hb'
      have hoi : O c i < 10 := of_decide_eq_true hb'
      have ei : nI (O c i) * 8 + nI i = nI (O c i * 8 + i) := by rw [show (8 : Int32) = nI 8 from rfl, pk_mul, nI_add]
      have ecel : vp_nar .short (a2 (O c i * 8 + i)) = a2 (O c i * 8 + i) := by
        obtain ⟨m, hm, em⟩ := hcel (O c i * 8 + i) (by omega)
        rw [em, zb_n16 (by omega)]
      refine nm_r (e' := nI (O c i)) (by rw [nI_clamp (by omega)]; exact h13 i hi hoi) ?_
      rw [nI_clamp (show h + be i < 2 ^ 31 by omega), zb_k8 c (by omega), zb_k8 i (by omega), zb_k8 (O c i) (by omega), ei, nI_clamp (show O c i * 8 + i < 2 ^ 31 by omega), ecel]
      refine ⟨pk_in (h + be i) 96 (by omega), nm_e ⟨pk_in (h + be i) 96 (by omega), nm_e ⟨pk_in (h + be i) 96 (by omega), nm_e ⟨pk_in (O c i * 8 + i) 80 (by omega), pk_in (h + be i) 96 (by omega), nm_e (nm_r (nI_1 i) (hw (upd b9 (h + be i) (nI c), upd b10 (h + be i) (nI i), upd b11 (h + be i) (nI (O c i)), upd b12 (h + be i) (a2 (O c i * 8 + i))) ⟨fun t ht hot => ?_, fun j hj => ?_⟩))⟩⟩⟩⟩
      · dsimp only
        by_cases et : t = i
        · rw [et, pk_us, pk_us, pk_us, pk_us]
          exact ⟨rfl, rfl, rfl, rfl⟩
        · have hne : h + be t ≠ h + be i := fun z => et (hinj t i (by omega) hi hot hoi (by omega))
          rw [pk_un hne, pk_un hne, pk_un hne, pk_un hne]
          exact g.1 t (by omega) hot
      · dsimp only
        have hne : j ≠ h + be i := hj i (by omega) hoi
        rw [pk_un hne, pk_un hne, pk_un hne, pk_un hne]
        exact g.2 j (fun t ht => hj t (by omega))
theorem zq_next {n k h : Nat} {O : Nat → Nat → Nat} {D be sh : Nat → Nat} {b9 b10 b11 b12 : Nat → Int32} (hn : n ≤ 10) (hD : zs_D n a1 a14 D) (h6 : ∀ s, s < 8 → a6 s = nI (be s) ∧ be s < 8) (hk : k < n) (hh : h ≤ 8 * k)
    (hI : zq_I a2 O D be sh k a8 a9 a10 a11 a12) (hfr : ∀ s, s < 8 → O (D k) s < 10 → a9 (h + be s) < 0) (hW : zq_W a2 O be (D k) h 8 a9 a10 a11 a12 b9 b10 b11 b12) :
    zq_I a2 O D be (fun c => if c = D k then h else sh c) (k + 1) (upd a8 (D k) (nI h)) b9 b10 b11 b12 := by
  have hne : ∀ j, j < k → ¬ D j = D k := fun j hj => hD.2.1 j k hj hk
  refine ⟨fun j hj => ?_, fun j s hj hs hos => ?_, fun i hi => ?_⟩
  · dsimp only
    by_cases ej : j = k
    · rw [ej, if_pos rfl, pk_us]
      exact ⟨rfl, hh⟩
    · rw [if_neg (hne j (by omega)), pk_un (hne j (by omega))]
      exact hI.1 j (by omega)
  · dsimp only
    by_cases ej : j = k
    · rw [ej] at hos ⊢
      rw [if_pos rfl]
      exact hW.1 s hs hos
    · rw [if_neg (hne j (by omega))]
      have o := hI.2.1 j s (by omega) hs hos
      have q := hW.2 (sh (D j) + be s) (fun t ht hot z => by
        have u := hfr t ht hot
        rw [← z, o.1] at u
        exact nI_pos (by have := (hD.1 j (by omega)).2; omega) u)
      rw [q.1, q.2.1, q.2.2.1, q.2.2.2]
      exact o
  · by_cases hx : ∃ t, t < 8 ∧ O (D k) t < 10 ∧ i = h + be t
    · obtain ⟨t, ht, hot, e⟩ := hx
      have w := hW.1 t ht hot
      have b := (h6 t ht).2
      rw [← e] at w
      exact Or.inr ⟨k, t, by omega, ht, hot, w.1, w.2.1, by omega⟩
    · have q := hW.2 i (fun t ht hot z => hx ⟨t, ht, hot, z⟩)
      rw [q.1, q.2.1]
      rcases hI.2.2 i hi with z | ⟨j, s, z1, z2, z3, z4, z5, z6⟩
      · exact Or.inl z
      · exact Or.inr ⟨j, s, by omega, z2, z3, z4, z5, by omega⟩
theorem zq_pack {post : St1 → Prop} {n k : Nat} {O : Nat → Nat → Nat} {D be sh : Nat → Nat} (hn : n ≤ 10) (hp : zs_par n a1) (hO : zo_ok n a1 a2 O) (hcel : zs_cel a2) (hD : zs_D n a1 a14 D)
    (h3 : ∀ c, c < n → zl_K O a3 c) (h6 : ∀ s, s < 8 → a6 s = nI (be s) ∧ be s < 8) (hinj : ∀ c s t, c < n → s < 8 → t < 8 → O c s < 10 → O c t < 10 → be s = be t → s = t)
    (hI : zq_I a2 O D be sh k a8 a9 a10 a11 a12) (hk : k < n)
    (H : ∀ b8 b9 b10 b11 b12 b13 sh', zq_I a2 O D be sh' (k + 1) b8 b9 b10 b11 b12 → post (nI n, fb, fl, fq, a1, a2, a3, a4, a5, a6, a7, b8, b9, b10, b11, b12, b13, a14)) :
    wpX_pack post (nI n, fb, fl, fq, a1, a2, a3, a4, a5, a6, a7, a8, a9, a10, a11, a12, a13, a14) (nI (D k)) := by
  have hDk := (hD.1 k hk).2
  unfold wpX_pack
  dsimp only
  refine zq_fill hn hp hO hD h3 h6 hI hk (fun b13 h13 => ?_)
  have K : ∀ h, h ≤ 8 * k → (∀ s, s < 8 → O (D k) s < 10 → a9 (h + be s) < 0) → wX_pack_33 post (nI (D k)) (nI h) (nI n) fb fl fq a1 a2 a3 a4 a5 a6 a7 a8 a9 a10 a11 a12 b13 a14 := by
    intro h hh hfr
    unfold wX_pack_33
    refine ⟨pk_in (D k) 10 (by omega), ?_⟩
    rw [nI_clamp (show D k < 2 ^ 31 by omega), zb_k8 h (by omega)]
    refine nm_e (zq_43 (by omega) (h3 _ hDk) h6 (by omega) h13 hcel (fun s t => hinj (D k) s t hDk) (fun b9 b10 b11 b12 hW => ?_))
    exact H _ _ _ _ _ _ _ (zq_next hn hD h6 hk hh hI hfr hW)
  refine pk_loop (σ := Unit) (fun f i _ => wX_pack_9 post (nI (D k)) (nI n) fb fl fq a1 a2 a3 a4 a5 a6 a7 a8 a9 a10 a11 a12 b13 a14 f (nI i) (nI i)) (fun _ _ => True) (8 * k) 0 () (by omega) trivial ?_ ?_
  · intro f _ _
    refine pk_le 88 (8 * k) (fun z => absurd z (by omega)) (fun _ => zq_fits (by omega) (h3 _ hDk) h6 (by omega) (fun g => br_f (by decide) (K _ (by omega) g)) (fun s hs hos hz => ?_))
    have b := (h6 s hs).2
    rcases hI.2.2 (8 * k + be s) (by omega) with z | ⟨_, _, _, _, _, _, _, z⟩
    · rw [z] at hz
      exact absurd zb_m1lt hz
    · omega
  · intro f i _ hi _ hw
    exact pk_le 88 i (fun z => absurd z (by omega)) (fun _ => zq_fits (by omega) (h3 _ hDk) h6 (by omega) (fun g => br_f (by decide) (K _ (by omega) g)) (fun s hs hos hz => br_t rfl (nm_r (nI_1 i) (nm_r (nI_1 i) (hw () trivial)))))
/-! ===== the whole table ===== -/
def zt_B (n : Nat) (a2 : Nat → Int32) (O : Nat → Nat → Nat) (q : Int32) (a3 a4 a6 a8 a9 a10 a11 a12 : Nat → Int32) : Prop :=
  ∃ (cc : Nat) (be sh : Nat → Nat), q = nI cc ∧ zp_F n O cc a6 be ∧ (∀ c, c < n → zl_K O a3 c) ∧ (∀ s, s < 8 → zm_M n O a4 s) ∧ (∀ c, c < n → a8 c = nI (sh c) ∧ sh c ≤ 72) ∧
  (∀ c s, c < n → s < 8 → (O c s < 10 → a9 (sh c + be s) = nI c ∧ a10 (sh c + be s) = nI s ∧ a11 (sh c + be s) = nI (O c s) ∧ a12 (sh c + be s) = a2 (O c s * 8 + s)) ∧ (¬ O c s < 10 → ¬ (a9 (sh c + be s) = nI c ∧ a10 (sh c + be s) = nI s)))
def zt_6 (a6 : Nat → Int32) : Prop := ∀ s, s < 8 → ∃ b, b < 8 ∧ a6 s = nI b
theorem zq_52 {post : St1 → Prop} {n cc : Nat} {O : Nat → Nat → Nat} {D be : Nat → Nat} (hn : n ≤ 10) (hp : zs_par n a1) (hO : zo_ok n a1 a2 O) (hcel : zs_cel a2) (hD : zs_D n a1 a14 D)
    (h3 : ∀ c, c < n → zl_K O a3 c) (h4 : ∀ s, s < 8 → zm_M n O a4 s) (hF : zp_F n O cc a6 be) (h9 : ∀ i, i < 96 → a9 i = -1)
    (H : ∀ b8 b9 b10 b11 b12 b13, zt_B n a2 O (nI cc) a3 a4 a6 b8 b9 b10 b11 b12 → post (nI n, fb, fl, nI cc, a1, a2, a3, a4, a5, a6, a7, b8, b9, b10, b11, b12, b13, a14)) :
    ∃ f, wX_build_52 post f 0 (nI n) fb fl (nI cc) a1 a2 a3 a4 a5 a6 a7 a8 a9 a10 a11 a12 a13 a14 := by
  have hinj : ∀ c s t, c < n → s < 8 → t < 8 → O c s < 10 → O c t < 10 → be s = be t → s = t := fun c s t hc hs ht hos hot e => hF.2.2.2 s t hs ht ⟨c, hc, hos, hot⟩ e
  refine pk_loop (fun f i (s : (Nat → Int32) × (Nat → Int32) × (Nat → Int32) × (Nat → Int32) × (Nat → Int32) × (Nat → Int32)) => wX_build_52 post f (nI i) (nI n) fb fl (nI cc) a1 a2 a3 a4 a5 a6 a7 s.1 s.2.1 s.2.2.1 s.2.2.2.1 s.2.2.2.2.1 s.2.2.2.2.2 a14) (fun i s => ∃ sh, zq_I a2 O D be sh i s.1 s.2.1 s.2.2.1 s.2.2.2.1 s.2.2.2.2.1) n 0 (a8, a9, a10, a11, a12, a13) (by omega) ⟨fun _ => 0, fun j hj => absurd hj (by omega), fun j s hj => absurd hj (by omega), fun i hi => Or.inl (h9 i hi)⟩ ?_ ?_
  · rintro f ⟨b8, b9, b10, b11, b12, b13⟩ ⟨sh, g1, g2, g3⟩
    dsimp only at g1 g2 g3
    refine pk_le n n (fun _ => H b8 b9 b10 b11 b12 b13 ⟨cc, be, sh, rfl, hF, h3, h4, fun c hc => ?_, fun c s hc hs => ⟨fun hos => ?_, fun hos hz => ?_⟩⟩) (fun z => absurd z (by omega))
    · obtain ⟨k, hk, ek⟩ := hD.2.2.2 c hc
      have q := g1 k hk
      rw [ek] at q
      exact ⟨q.1, by omega⟩
    · obtain ⟨k, hk, ek⟩ := hD.2.2.2 c hc
      have q := g2 k s hk hs
      rw [ek] at q
      exact q hos
    · obtain ⟨k, hk, ek⟩ := hD.2.2.2 c hc
      have q := g1 k hk
      rw [ek] at q
      have b := (hF.2.1 s hs).2
      rcases g3 (sh c + be s) (by omega) with z | ⟨j, t, z1, z2, z3, z4, z5, z6⟩
      · exact zb_ne1 (by omega) (hz.1.symm.trans z)
      · have d := (hD.1 j z1).2
        have e1 := (nI_eq (by omega) (by omega)).mp (z4.symm.trans hz.1)
        have e2 := (nI_eq (by omega) (by omega)).mp (z5.symm.trans hz.2)
        rw [e1, e2] at z3
        exact hos z3
  · rintro f i ⟨b8, b9, b10, b11, b12, b13⟩ hi ⟨sh, g⟩ hw
    dsimp only at g
    refine pk_le n i (fun z => absurd z (by omega)) (fun _ => ⟨pk_in i 10 (by omega), ?_⟩)
    dsimp only
    rw [nI_clamp (show i < 2 ^ 31 by omega), (hD.1 i hi).1]
    exact zq_pack hn hp hO hcel hD h3 hF.2.1 hinj g hi (fun c8 c9 c10 c11 c12 c13 sh' g' => nm_r (nI_1 i) (hw (c8, c9, c10, c11, c12, c13) ⟨sh', g'⟩))
theorem zq_31 {post : St1 → Prop} (H : ∀ b9, (∀ i, i < 96 → b9 i = -1) → ∃ f, wX_build_52 post f 0 f0 fb fl fq a1 a2 a3 a4 a5 a6 a7 a8 b9 a10 a11 a12 a13 a14) : ∃ f, wX_build_31 post f0 fb fl fq f 0 a1 a2 a3 a4 a5 a6 a7 a8 a9 a10 a11 a12 a13 a14 := by
  refine pk_loop (fun f i (s : Nat → Int32) => wX_build_31 post f0 fb fl fq f (nI i) a1 a2 a3 a4 a5 a6 a7 a8 s a10 a11 a12 a13 a14) (fun i s => ∀ j, j < i → s j = -1) 96 0 a9 (by omega) (fun j hj => absurd hj (by omega)) ?_ ?_
  · intro f s h
    exact pk_le 96 96 (fun _ => H s h) (fun z => absurd z (by omega))
  · intro f i s hi h hw
    refine pk_le 96 i (fun z => absurd z (by omega)) (fun _ => ⟨pk_in i 96 hi, nm_r (e' := upd s i (-1)) (by rw [nI_clamp (by omega)]) (nm_r (nI_1 i) (hw _ (fun j hj => ?_)))⟩)
    by_cases ej : j = i
    · rw [ej, pk_us]
    · rw [pk_un ej]
      exact h j (by omega)
def zt_I (n : Nat) (a1 a2 : Nat → Int32) (O : Nat → Nat → Nat) (u : St1) : Prop :=
  ∃ b l q a3 a4 a5 a6 a7 a8 a9 a10 a11 a12 a13 a14, u = (nI n, b, l, q, a1, a2, a3, a4, a5, a6, a7, a8, a9, a10, a11, a12, a13, a14) ∧ zt_6 a6 ∧ (b = 0 ∨ (b = 1 ∧ zt_B n a2 O q a3 a4 a6 a8 a9 a10 a11 a12))
theorem zt_build {post : St1 → Prop} {n : Nat} {O : Nat → Nat → Nat} {u : St1} (hs : zs_src n a1 a2) (hO : zo_ok n a1 a2 O) (hu : zt_I n a1 a2 O u)
    (H : ∀ l q a3 a4 a5 a6 a7 a8 a9 a10 a11 a12 a13 a14, zt_6 a6 → zt_B n a2 O q a3 a4 a6 a8 a9 a10 a11 a12 → post (nI n, 1, l, q, a1, a2, a3, a4, a5, a6, a7, a8, a9, a10, a11, a12, a13, a14)) : wpX_build post u := by
  obtain ⟨b, l, q, a3, a4, a5, a6, a7, a8, a9, a10, a11, a12, a13, a14, rfl, h6, hb⟩ := hu
  obtain ⟨hn, hp, hr, hcel⟩ := hs
  unfold wpX_build
  dsimp only
  rcases hb with rfl | ⟨rfl, hB⟩
  · refine br_t rfl (zs_sort hn hp hr (fun d D hD => ?_))
    dsimp only
    refine zl_learn hn hp hO hD (fun k3 h3 => ?_)
    dsimp only
    refine zm_meet hn h3 (fun m4 h4 => ?_)
    dsimp only
    refine zp_paint h4 h6 (fun l' cc b5 b6 b7 be hF => ?_)
    dsimp only
    refine zq_31 (fun b9 h9 => zq_52 hn hp hO hcel hD h3 h4 hF h9 (fun b8 b9 b10 b11 b12 b13 hB => H _ _ _ _ _ _ _ _ _ _ _ _ _ _ ?_ hB))
    exact fun s hs => ⟨be s, (hF.2.1 s hs).2, (hF.2.1 s hs).1⟩
  · exact br_f (by decide) (H _ _ _ _ _ _ _ _ _ _ _ _ _ _ h6 hB)
end
end
section
section
variable {f0 fb fl fq : Int32} {a1 a2 a3 a4 a5 a6 a7 a8 a9 a10 a11 a12 a13 a14 : Nat → Int32}
/-! ===== questions ===== -/
theorem zz_cls {post : Int32 → Prop} {n c : Nat} (h : c < n) (hn : n ≤ 10) (H : post 1) : wpX_isClass post (nI n, fb, fl, fq, a1, a2, a3, a4, a5, a6, a7, a8, a9, a10, a11, a12, a13, a14) (nI c) :=
  br_f (nI_pos (by omega)) (br_f (nI_ge h (by omega)) H)
theorem zz_cl0 {post : Int32 → Prop} {n c : Nat} (h : n ≤ c) (hc : c ≤ 300) (H : post 0) : wpX_isClass post (nI n, fb, fl, fq, a1, a2, a3, a4, a5, a6, a7, a8, a9, a10, a11, a12, a13, a14) (nI c) :=
  br_f (nI_pos (by omega)) (br_t (nI_le h (by omega)) H)
theorem zz_clm {post : Int32 → Prop} (H : post 0) : wpX_isClass post (f0, fb, fl, fq, a1, a2, a3, a4, a5, a6, a7, a8, a9, a10, a11, a12, a13, a14) (-1) := br_t zb_m1lt H
theorem zz_sel {post : Int32 → Prop} {s : Nat} (h : s < 8) (H : post 1) : wpX_isSelector post () (nI s) :=
  br_f (nI_pos (by omega)) (br_f (nI_ge (b := 8) h (by decide)) H)
theorem zt_entry {post : Int32 → St1 → Prop} {n c s : Nat} {O : Nat → Nat → Nat} {u : St1} (hs : zs_src n a1 a2) (hO : zo_ok n a1 a2 O) (hu : zt_I n a1 a2 O u) (hc : c < n) (hs8 : s < 8)
    (H1 : O c s < 10 → ∀ l q a3 a4 a5 a6 a7 a8 a9 a10 a11 a12 a13 a14 i, zt_I n a1 a2 O (nI n, 1, l, q, a1, a2, a3, a4, a5, a6, a7, a8, a9, a10, a11, a12, a13, a14) → i < 96 → a11 i = nI (O c s) → a12 i = a2 (O c s * 8 + s) → post (nI i) (nI n, 1, l, q, a1, a2, a3, a4, a5, a6, a7, a8, a9, a10, a11, a12, a13, a14))
    (H0 : ¬ O c s < 10 → ∀ l q a3 a4 a5 a6 a7 a8 a9 a10 a11 a12 a13 a14, zt_I n a1 a2 O (nI n, 1, l, q, a1, a2, a3, a4, a5, a6, a7, a8, a9, a10, a11, a12, a13, a14) → post (-1) (nI n, 1, l, q, a1, a2, a3, a4, a5, a6, a7, a8, a9, a10, a11, a12, a13, a14)) : wpX_entry post u (nI c) (nI s) := by
  have hu' := hu
  obtain ⟨b, l, q, a3, a4, a5, a6, a7, a8, a9, a10, a11, a12, a13, a14, rfl, _, _⟩ := hu
  have hn := hs.1
  unfold wpX_entry
  dsimp only
  refine zz_cls hc hn (br_f (by decide) (zz_sel hs8 (br_f (by decide) (zt_build hs hO hu' (fun l q a3 a4 a5 a6 a7 a8 a9 a10 a11 a12 a13 a14 h6 hB => ?_)))))
  have hI : zt_I n a1 a2 O (nI n, 1, l, q, a1, a2, a3, a4, a5, a6, a7, a8, a9, a10, a11, a12, a13, a14) := ⟨1, l, q, a3, a4, a5, a6, a7, a8, a9, a10, a11, a12, a13, a14, rfl, h6, Or.inr ⟨rfl, hB⟩⟩
  obtain ⟨cc, be, sh, rfl, hF, h3, h4, h8, ht⟩ := hB
  obtain ⟨e6, b6⟩ := hF.2.1 s hs8
  obtain ⟨e8, b8⟩ := h8 c hc
  dsimp only
  refine ⟨pk_in c 10 (by omega), pk_in s 8 hs8, nm_r (e' := nI (sh c + be s)) (by rw [nI_clamp (by omega), nI_clamp (by omega), e6, e8, nI_add]) ⟨pk_in (sh c + be s) 96 (by omega), ?_⟩⟩
  rw [nI_clamp (show sh c + be s < 2 ^ 31 by omega)]
  by_cases ho : O c s < 10
  · obtain ⟨t9, t10, t11, t12⟩ := (ht c s hc hs8).1 ho
    exact br_t t9 ⟨pk_in (sh c + be s) 96 (by omega), br_t t10 (H1 ho _ _ _ _ _ _ _ _ _ _ _ _ _ _ _ hI (by omega) t11 t12)⟩
  · have hz := (ht c s hc hs8).2 ho
    have h0 := H0 ho _ _ _ _ _ _ _ _ _ _ _ _ _ _ hI
    exact br_c (fun g1 => ⟨pk_in (sh c + be s) 96 (by omega), br_f (fun g2 => hz ⟨g1, g2⟩) h0⟩) (fun _ => h0)
def zt_v (a2 : Nat → Int32) (O : Nat → Nat → Nat) (c s : Nat) : Int32 := if O c s < 10 then a2 (O c s * 8 + s) else 0
def zt_o (O : Nat → Nat → Nat) (c s : Nat) : Int32 := if O c s < 10 then nI (O c s) else -1
theorem zt_send {post : Int32 → St1 → Prop} {n c s : Nat} {O : Nat → Nat → Nat} {u : St1} (hs : zs_src n a1 a2) (hO : zo_ok n a1 a2 O) (hu : zt_I n a1 a2 O u) (hc : c < n) (hs8 : s < 8)
    (H : ∀ u', zt_I n a1 a2 O u' → post (zt_v a2 O c s) u') : wpX_send post u (nI c) (nI s) := by
  have hu' := hu
  obtain ⟨b, l, q, a3, a4, a5, a6, a7, a8, a9, a10, a11, a12, a13, a14, rfl, _, _⟩ := hu
  unfold wpX_send
  dsimp only
  refine zt_entry hs hO hu' hc hs8 (fun ho l q a3 a4 a5 a6 a7 a8 a9 a10 a11 a12 a13 a14 i hI hi e11 e12 => ?_) (fun ho l q a3 a4 a5 a6 a7 a8 a9 a10 a11 a12 a13 a14 hI => ?_)
  · have h := H _ hI
    unfold zt_v at h
    rw [if_pos ho] at h
    dsimp only
    refine br_t (nI_pos' (by omega)) ⟨pk_in i 96 hi, ?_⟩
    rw [nI_clamp (by omega), e12]
    exact h
  · have h := H _ hI
    unfold zt_v at h
    rw [if_neg ho] at h
    exact br_f (by decide) h
theorem zt_owner {post : Int32 → St1 → Prop} {n c s : Nat} {O : Nat → Nat → Nat} {u : St1} (hs : zs_src n a1 a2) (hO : zo_ok n a1 a2 O) (hu : zt_I n a1 a2 O u) (hc : c < n) (hs8 : s < 8)
    (H : ∀ u', zt_I n a1 a2 O u' → post (zt_o O c s) u') : wpX_owner post u (nI c) (nI s) := by
  have hu' := hu
  obtain ⟨b, l, q, a3, a4, a5, a6, a7, a8, a9, a10, a11, a12, a13, a14, rfl, _, _⟩ := hu
  unfold wpX_owner
  dsimp only
  refine zt_entry hs hO hu' hc hs8 (fun ho l q a3 a4 a5 a6 a7 a8 a9 a10 a11 a12 a13 a14 i hI hi e11 e12 => ?_) (fun ho l q a3 a4 a5 a6 a7 a8 a9 a10 a11 a12 a13 a14 hI => ?_)
  · have h := H _ hI
    unfold zt_o at h
    rw [if_pos ho] at h
    dsimp only
    refine br_t (nI_pos' (by omega)) ⟨pk_in i 96 hi, ?_⟩
    rw [nI_clamp (by omega), e11]
    exact h
  · have h := H _ hI
    unfold zt_o at h
    rw [if_neg ho] at h
    exact br_f (by decide) h
theorem zt_und {post : Int32 → St1 → Prop} {n c : Nat} {O : Nat → Nat → Nat} {u : St1} (hs : zs_src n a1 a2) (hO : zo_ok n a1 a2 O) (hu : zt_I n a1 a2 O u) (hc : c < n)
    (H : ∀ x u', zt_I n a1 a2 O u' → (∀ s, s < 8 → zb_t x s = decide (O c s < 10)) → post x u') : wpX_understands post u (nI c) := by
  have hu' := hu
  obtain ⟨b, l, q, a3, a4, a5, a6, a7, a8, a9, a10, a11, a12, a13, a14, rfl, _, _⟩ := hu
  have hn := hs.1
  unfold wpX_understands
  dsimp only
  refine zz_cls hc hn (br_f (by decide) (zt_build hs hO hu' (fun l q a3 a4 a5 a6 a7 a8 a9 a10 a11 a12 a13 a14 h6 hB => ?_)))
  have hI : zt_I n a1 a2 O (nI n, 1, l, q, a1, a2, a3, a4, a5, a6, a7, a8, a9, a10, a11, a12, a13, a14) := ⟨1, l, q, a3, a4, a5, a6, a7, a8, a9, a10, a11, a12, a13, a14, rfl, h6, Or.inr ⟨rfl, hB⟩⟩
  obtain ⟨cc, be, sh, rfl, hF, h3, h4, h8, ht⟩ := hB
  dsimp only
  refine ⟨pk_in c 10 (by omega), ?_⟩
  rw [nI_clamp (by omega)]
  exact H _ _ hI (h3 c hc).2
theorem zt_heirsm {post : Int32 → St1 → Prop} {n s : Nat} {O : Nat → Nat → Nat} {u : St1} (hu : zt_I n a1 a2 O u) (H : post 0 u) : wpX_heirs post u (-1) (nI s) := by
  obtain ⟨b, l, q, a3, a4, a5, a6, a7, a8, a9, a10, a11, a12, a13, a14, rfl, _, _⟩ := hu
  unfold wpX_heirs
  dsimp only
  exact zz_clm (br_t rfl H)
theorem zt_heirs {post : Int32 → St1 → Prop} {n o s : Nat} {O : Nat → Nat → Nat} {u : St1} (hs : zs_src n a1 a2) (hO : zo_ok n a1 a2 O) (hu : zt_I n a1 a2 O u) (ho : o < n) (hs8 : s < 8) (hd : ¬ a2 (o * 8 + s) = 0)
    (H : ∀ x u', zt_I n a1 a2 O u' → (∀ c, c < n → O c s = o → zb_t x c = true) → post x u') : wpX_heirs post u (nI o) (nI s) := by
  have hu' := hu
  obtain ⟨b, l, q, a3, a4, a5, a6, a7, a8, a9, a10, a11, a12, a13, a14, rfl, _, _⟩ := hu
  have hn := hs.1
  have ei : nI o * 8 + nI s = nI (o * 8 + s) := by rw [show (8 : Int32) = nI 8 from rfl, pk_mul, nI_add]
  unfold wpX_heirs
  dsimp only
  refine zz_cls ho hn (br_f (by decide) (zz_sel hs8 (br_f (by decide) ?_)))
  rw [ei]
  refine ⟨pk_in (o * 8 + s) 80 (by omega), ?_⟩
  rw [nI_clamp (by omega)]
  refine br_f hd ?_
  have key := pk_loop (fun f i (v : Int32 × St1) => wX_heirs_36 post (nI o) (nI s) f v.1 (nI i) v.2.1 v.2.2.1 v.2.2.2.1 v.2.2.2.2.1 v.2.2.2.2.2.1 v.2.2.2.2.2.2.1 v.2.2.2.2.2.2.2.1 v.2.2.2.2.2.2.2.2.1 v.2.2.2.2.2.2.2.2.2.1 v.2.2.2.2.2.2.2.2.2.2.1 v.2.2.2.2.2.2.2.2.2.2.2.1 v.2.2.2.2.2.2.2.2.2.2.2.2.1 v.2.2.2.2.2.2.2.2.2.2.2.2.2.1 v.2.2.2.2.2.2.2.2.2.2.2.2.2.2.1 v.2.2.2.2.2.2.2.2.2.2.2.2.2.2.2.1 v.2.2.2.2.2.2.2.2.2.2.2.2.2.2.2.2.1 v.2.2.2.2.2.2.2.2.2.2.2.2.2.2.2.2.2.1 v.2.2.2.2.2.2.2.2.2.2.2.2.2.2.2.2.2.2) (fun i v => zt_I n a1 a2 O v.2 ∧ ∀ c, c < i → O c s = o → zb_t v.1 c = true) n 0 (0, (nI n, b, l, q, a1, a2, a3, a4, a5, a6, a7, a8, a9, a10, a11, a12, a13, a14)) (by omega) ⟨hu', fun c hc => absurd hc (by omega)⟩ ?_ ?_
  · exact key
  · rintro f ⟨x, v⟩ ⟨hI, h⟩
    dsimp only at hI h
    have hI' := hI
    obtain ⟨b, l, q, a3, a4, a5, a6, a7, a8, a9, a10, a11, a12, a13, a14, rfl, _, _⟩ := hI
    exact pk_le n n (fun _ => H x _ hI' h) (fun z => absurd z (by omega))
  · rintro f i ⟨x, v⟩ hi ⟨hI, h⟩ hw
    dsimp only at hI h
    have hI' := hI
    obtain ⟨b, l, q, a3, a4, a5, a6, a7, a8, a9, a10, a11, a12, a13, a14, rfl, _, _⟩ := hI
    refine pk_le n i (fun z => absurd z (by omega)) (fun _ => ?_)
    dsimp only
    refine zt_entry hs hO hI' hi hs8 (fun ho' l q a3 a4 a5 a6 a7 a8 a9 a10 a11 a12 a13 a14 j hI hj e11 e12 => ?_) (fun ho' l q a3 a4 a5 a6 a7 a8 a9 a10 a11 a12 a13 a14 hI => ?_)
    · dsimp only
      refine br_f (nI_pos (by omega)) ⟨pk_in j 96 hj, ?_⟩
      rw [nI_clamp (by omega), e11]
      refine pk_eq (O i s) o (fun z => nm_e (nm_r (nI_1 i) (hw (_, _) ⟨hI, fun c hc hoc => ?_⟩))) (fun z => nm_r (nI_1 i) (hw (_, _) ⟨hI, fun c hc hoc => ?_⟩))
      · dsimp only
        rw [zb_set x (by omega)]
        by_cases ec : c = i
        · rw [decide_eq_true ec, Bool.or_true]
        · rw [h c (by omega) hoc, Bool.true_or]
      · by_cases ec : c = i
        · rw [ec] at hoc
          exact absurd hoc z
        · exact h c (by omega) hoc
    · dsimp only
      refine br_t zb_m1lt (nm_r (nI_1 i) (hw (_, _) ⟨hI, fun c hc hoc => ?_⟩))
      by_cases ec : c = i
      · rw [ec] at hoc
        omega
      · exact h c (by omega) hoc
theorem zt_apart {post : Int32 → St1 → Prop} {n s : Nat} {O : Nat → Nat → Nat} {u : St1} (hs : zs_src n a1 a2) (hO : zo_ok n a1 a2 O) (hu : zt_I n a1 a2 O u) (hs8 : s < 8)
    (H : ∀ x u', zt_I n a1 a2 O u' → (∀ t, t < 8 → (zb_t x t = true ↔ ¬ zm_P n O s t ∧ ¬ t = s)) → post x u') : wpX_apart post u (nI s) := by
  have hu' := hu
  obtain ⟨b, l, q, a3, a4, a5, a6, a7, a8, a9, a10, a11, a12, a13, a14, rfl, _, _⟩ := hu
  unfold wpX_apart
  dsimp only
  refine zz_sel hs8 (br_f (by decide) (zt_build hs hO hu' (fun l q a3 a4 a5 a6 a7 a8 a9 a10 a11 a12 a13 a14 h6 hB => ?_)))
  have hI : zt_I n a1 a2 O (nI n, 1, l, q, a1, a2, a3, a4, a5, a6, a7, a8, a9, a10, a11, a12, a13, a14) := ⟨1, l, q, a3, a4, a5, a6, a7, a8, a9, a10, a11, a12, a13, a14, rfl, h6, Or.inr ⟨rfl, hB⟩⟩
  obtain ⟨cc, be, sh, rfl, hF, h3, h4, h8, ht⟩ := hB
  dsimp only
  refine ⟨pk_in s 8 hs8, H _ _ hI (fun t ht8 => ?_)⟩
  rw [nI_clamp (by omega), zb_and, zb_and, zb_xor, zb_xor, zb_255, zb_m1 t (by omega), zb_one (by omega), decide_eq_true ht8, Bool.true_and, Bool.xor_true, Bool.xor_true, Bool.and_eq_true, Bool.not_eq_true', Bool.not_eq_true', decide_eq_false_iff_not]
  rw [← Bool.not_eq_true, ((h4 s hs8).2 t ht8)]
theorem zt_crowded {post : Int32 → Prop} {x : Int32} (H1 : (∀ s, s < 8 → zb_t x s = true → ∀ t, t < 32 → zb_t x t = true → zb_t (a4 s) t = true) → post 1) (H0 : post 0) : wpX_crowded post (f0, fb, fl, fq, a1, a2, a3, a4, a5, a6, a7, a8, a9, a10, a11, a12, a13, a14) x := by
  show ∃ f, wX_crowded_2 post x f0 fb fl fq a1 a2 a3 a4 a5 a6 a7 a8 a9 a10 a11 a12 a13 a14 f 0
  refine pk_loop (σ := Unit) (fun f i _ => wX_crowded_2 post x f0 fb fl fq a1 a2 a3 a4 a5 a6 a7 a8 a9 a10 a11 a12 a13 a14 f (nI i)) (fun i _ => ∀ s, s < i → zb_t x s = true → ∀ t, t < 32 → zb_t x t = true → zb_t (a4 s) t = true) 8 0 () (by omega) (fun s hs => absurd hs (by omega)) ?_ ?_
  · intro f _ g
    exact pk_le 8 8 (fun _ => H1 g) (fun z => absurd z (by omega))
  · intro f i _ hi g hw
    refine pk_le 8 i (fun z => absurd z (by omega)) (fun _ => br_c (fun hb => nm_r (nI_1 i) (hw () (fun s hs hbs => ?_))) (fun hb => ⟨pk_in i 8 hi, br_c (fun hz => nm_r (nI_1 i) (hw () (fun s hs hbs t ht hbt => ?_))) (fun _ => H0)⟩))
    · have hb' := (zb_t0 (by omega)).mp hb
      by_cases es : s = i
      · rw [es, hb'] at hbs
        exact absurd hbs (by decide)
      · exact g s (by omega) hbs
    · by_cases es : s = i
      · rw [nI_clamp (by omega)] at hz
        have q : zb_t (x &&& (a4 i ^^^ (-1))) t = false := by rw [hz]; exact zb_0 t
        rw [zb_and, zb_xor, zb_m1 t ht, hbt, Bool.true_and, Bool.xor_true] at q
        rw [es]
        cases hq : zb_t (a4 i) t
        · rw [hq] at q
          exact absurd q (by decide)
        · rfl
      · exact g s (by omega) hbs t ht hbt
def zt_col (n : Nat) (O : Nat → Nat → Nat) (cc : Nat) : Prop := ∃ be : Nat → Nat, (∀ s, s < 8 → zm_P n O s s → be s < cc) ∧ (∀ s t, s < 8 → t < 8 → zm_P n O s t → be s = be t → s = t)
theorem zt_crowd {post : Int32 → St1 → Prop} {n : Nat} {O : Nat → Nat → Nat} {u : St1} (hs : zs_src n a1 a2) (hO : zo_ok n a1 a2 O) (hu : zt_I n a1 a2 O u)
    (H : ∀ r u', zt_I n a1 a2 O u' → r ≤ 8 → (∀ cc, zt_col n O cc → r ≤ cc) → post (nI r) u') : wpX_crowd post u := by
  have hu' := hu
  obtain ⟨b, l, q, a3, a4, a5, a6, a7, a8, a9, a10, a11, a12, a13, a14, rfl, _, _⟩ := hu
  unfold wpX_crowd
  dsimp only
  refine zt_build hs hO hu' (fun l q a3 a4 a5 a6 a7 a8 a9 a10 a11 a12 a13 a14 h6 hB => ?_)
  have hI : zt_I n a1 a2 O (nI n, 1, l, q, a1, a2, a3, a4, a5, a6, a7, a8, a9, a10, a11, a12, a13, a14) := ⟨1, l, q, a3, a4, a5, a6, a7, a8, a9, a10, a11, a12, a13, a14, rfl, h6, Or.inr ⟨rfl, hB⟩⟩
  obtain ⟨cc, be, sh, rfl, hF, h3, h4, h8, ht⟩ := hB
  dsimp only
  refine pk_loop (fun f i (x : Int32) => wX_crowd_8 post (nI n) 1 l (nI cc) a1 a2 a3 a4 a5 a6 a7 a8 a9 a10 a11 a12 a13 a14 f x (nI i)) (fun i x => ∃ r, x = nI r ∧ r ≤ 8 ∧ ∀ cc, zt_col n O cc → r ≤ cc) 256 1 0 (by omega) ⟨0, rfl, by omega, fun _ _ => by omega⟩ ?_ ?_
  · rintro f x ⟨r, rfl, hr, h⟩
    exact pk_le 256 256 (fun _ => H r _ hI hr h) (fun z => absurd z (by omega))
  · rintro f i x hi ⟨r, rfl, hr, h⟩ hw
    have hz8 := zc_le (zb_t (nI i)) 8
    refine pk_le 256 i (fun z => absurd z (by omega)) (fun _ => zz_size (pk_le (zc_n (zb_t (nI i)) 8) r (fun z => nm_r (nI_1 i) (hw _ ⟨r, rfl, hr, h⟩)) (fun z => zt_crowded (fun g => br_f (by decide) (nm_r (nI_1 i) (hw _ ⟨_, rfl, hz8, fun cc hcol => ?_⟩))) (br_t rfl (nm_r (nI_1 i) (hw _ ⟨r, rfl, hr, h⟩))))))
    obtain ⟨be, c1, c2⟩ := hcol
    exact zc_inj be cc (zb_t (nI i)) (fun s hs8 hb => c1 s hs8 (((h4 s hs8).2 s hs8).mp (g s hs8 hb s (by omega) hb))) (fun s t hs8 ht8 hb1 hb2 he => c2 s t hs8 ht8 (((h4 s hs8).2 t ht8).mp (g s hs8 hb1 t (by omega) hb2)) he)
theorem zt_colours {post : Int32 → St1 → Prop} {n : Nat} {O : Nat → Nat → Nat} {u : St1} (hs : zs_src n a1 a2) (hO : zo_ok n a1 a2 O) (hu : zt_I n a1 a2 O u)
    (H : ∀ cc u', zt_I n a1 a2 O u' → cc ≤ 8 → zt_col n O cc → post (nI cc) u') : wpX_colours post u := by
  have hu' := hu
  obtain ⟨b, l, q, a3, a4, a5, a6, a7, a8, a9, a10, a11, a12, a13, a14, rfl, _, _⟩ := hu
  unfold wpX_colours
  dsimp only
  refine zt_build hs hO hu' (fun l q a3 a4 a5 a6 a7 a8 a9 a10 a11 a12 a13 a14 h6 hB => ?_)
  have hI : zt_I n a1 a2 O (nI n, 1, l, q, a1, a2, a3, a4, a5, a6, a7, a8, a9, a10, a11, a12, a13, a14) := ⟨1, l, q, a3, a4, a5, a6, a7, a8, a9, a10, a11, a12, a13, a14, rfl, h6, Or.inr ⟨rfl, hB⟩⟩
  obtain ⟨cc, be, sh, rfl, hF, h3, h4, h8, ht⟩ := hB
  exact H cc _ hI hF.1 ⟨be, hF.2.2.1, hF.2.2.2⟩
end
end
section
section
variable {f0 fb fl fq : Int32} {a1 a2 a3 a4 a5 a6 a7 a8 a9 a10 a11 a12 a13 a14 : Nat → Int32}
/-! ===== turns ===== -/
def zu_U (n : Nat) (a1 a2 : Nat → Int32) (u : St1) : Prop := ∃ l q a3 a4 a5 a6 a7 a8 a9 a10 a11 a12 a13 a14, u = (nI n, 0, l, q, a1, a2, a3, a4, a5, a6, a7, a8, a9, a10, a11, a12, a13, a14) ∧ zt_6 a6
def zu_V (u : St1) : Prop := ∃ n a1 a2, zs_src n a1 a2 ∧ zu_U n a1 a2 u
def zu_p (n : Nat) (v : Int32) : Prop := v = -1 ∨ ∃ p, p < n ∧ v = nI p
theorem zu_p8 {n : Nat} {v : Int32} (hn : n ≤ 10) (h : zu_p n v) : v.toInt8.toInt32 = v := by
  rcases h with rfl | ⟨p, hp, rfl⟩
  · decide
  · exact zb_k8 p (by omega)
theorem zu_pcl {n : Nat} {v : Int32} {post : Int32 → Prop} (hn : n ≤ 10) (h : zu_p n v) (hv : ¬ v = -1) (H : post 1) : wpX_isClass post (nI n, fb, fl, fq, a1, a2, a3, a4, a5, a6, a7, a8, a9, a10, a11, a12, a13, a14) v := by
  rcases h with e | ⟨p, hp, rfl⟩
  · exact absurd e hv
  · exact zz_cls hp hn H
theorem zu_cel0 {k : Nat} (h : zs_cel a2) : zs_cel (upd a2 k 0) := by
  intro i hi
  by_cases e : i = k
  · rw [e, pk_us]
    exact ⟨0, by omega, rfl⟩
  · rw [pk_un e]
    exact h i hi
theorem zu_celm {k m : Nat} (h : zs_cel a2) (hm : m ≤ 1000) : zs_cel (upd a2 k (nI m)) := by
  intro i hi
  by_cases e : i = k
  · rw [e, pk_us]
    exact ⟨m, hm, rfl⟩
  · rw [pk_un e]
    exact h i hi
theorem zu_srcA {n : Nat} {v : Int32} {b2 : Nat → Int32} (hs : zs_src n a1 a2) (hn : n < 10) (hv : zu_p n v) (hb : zs_cel b2) : zs_src (n + 1) (upd a1 n v) b2 := by
  obtain ⟨_, hp, ⟨rk, hr⟩, _⟩ := hs
  refine ⟨by omega, fun j hj => ?_, ⟨fun j => if j = n then n else rk j, fun j hj => ?_, fun j p hj hpn e => ?_⟩, hb⟩
  · by_cases ej : j = n
    · rw [ej, pk_us]
      rcases hv with e | ⟨p, hp, e⟩
      · exact Or.inl e
      · exact Or.inr ⟨p, by omega, e⟩
    · rw [pk_un ej]
      rcases hp j (by omega) with e | ⟨p, hp, e⟩
      · exact Or.inl e
      · exact Or.inr ⟨p, by omega, e⟩
  · dsimp only
    by_cases ej : j = n
    · rw [if_pos ej]
      omega
    · rw [if_neg ej]
      have := hr.1 j (by omega)
      omega
  · dsimp only
    by_cases ej : j = n
    · rw [ej, pk_us] at e
      rcases hv with e' | ⟨q, hq, e'⟩
      · exact absurd (e.symm.trans e') (zb_ne1 (by omega))
      · have ee := (nI_eq (by omega) (by omega)).mp (e.symm.trans e')
        have hk := hr.1 p (by omega)
        rw [if_pos ej, if_neg (by omega)]
        omega
    · rw [pk_un ej] at e
      rcases hp j (by omega) with e' | ⟨q, hq, e'⟩
      · exact absurd (e.symm.trans e') (zb_ne1 (by omega))
      · have ee := (nI_eq (by omega) (by omega)).mp (e.symm.trans e')
        have hk := hr.2 j p (by omega) (by omega) e
        rw [if_neg ej, if_neg (by omega)]
        exact hk
theorem zu_add {post : Int32 → St1 → Prop} {n : Nat} {v : Int32} (hs : zs_src n a1 a2) (h6 : zt_6 a6) (hv : zu_p n v) (H : ∀ r u', zu_V u' → post r u') : wpX_addClass post (nI n, 0, fl, fq, a1, a2, a3, a4, a5, a6, a7, a8, a9, a10, a11, a12, a13, a14) v := by
  have hn := hs.1
  have K : wX_addClass_15 post v (nI n) 0 fl fq a1 a2 a3 a4 a5 a6 a7 a8 a9 a10 a11 a12 a13 a14 := by
    unfold wX_addClass_15
    refine pk_lt n 10 (fun hn10 => ⟨pk_in n 10 hn10, ?_⟩) (fun _ => H _ _ ⟨n, a1, a2, hs, fl, fq, a3, a4, a5, a6, a7, a8, a9, a10, a11, a12, a13, a14, rfl, h6⟩)
    rw [nI_clamp (by omega), zu_p8 hn hv]
    refine nm_e ?_
    refine pk_loop (fun f i (s : Nat → Int32) => wX_addClass_40 post (nI n) 0 fl fq f (nI i) (upd a1 n v) s a3 a4 a5 a6 a7 a8 a9 a10 a11 a12 a13 a14) (fun i s => zs_cel s) 8 0 a2 (by omega) hs.2.2.2 ?_ ?_
    · intro f s h
      exact pk_le 8 8 (fun _ => nm_r (nI_1 n) (H _ _ ⟨n + 1, upd a1 n v, s, zu_srcA hs hn10 hv h, fl, fq, a3, a4, a5, a6, a7, a8, a9, a10, a11, a12, a13, a14, rfl, h6⟩)) (fun z => absurd z (by omega))
    · intro f i s hi h hw
      have ei : nI n * 8 + nI i = nI (n * 8 + i) := by rw [show (8 : Int32) = nI 8 from rfl, pk_mul, nI_add]
      refine pk_le 8 i (fun z => absurd z (by omega)) (fun _ => ⟨by rw [ei]; exact pk_in (n * 8 + i) 80 (by omega), nm_e (nm_r (nI_1 i) (hw _ (zu_cel0 h)))⟩)
  unfold wpX_addClass
  dsimp only
  exact br_c (fun _ => K) (fun hv1 => zu_pcl hn hv hv1 (br_f (by decide) K))
theorem zu_define {post : Int32 → St1 → Prop} {n c s m : Nat} (hs : zs_src n a1 a2) (h6 : zt_6 a6) (hc : c ≤ 300) (hs8 : s < 8) (hm : m < 512) (H : ∀ r u', zu_V u' → post r u') : wpX_define post (nI n, 0, fl, fq, a1, a2, a3, a4, a5, a6, a7, a8, a9, a10, a11, a12, a13, a14) (nI c) (nI s) (nI (1 + m)) := by
  have hn := hs.1
  have h0 : ∀ r, post r (nI n, 0, fl, fq, a1, a2, a3, a4, a5, a6, a7, a8, a9, a10, a11, a12, a13, a14) := fun r => H _ _ ⟨n, a1, a2, hs, fl, fq, a3, a4, a5, a6, a7, a8, a9, a10, a11, a12, a13, a14, rfl, h6⟩
  have ei : nI c * 8 + nI s = nI (c * 8 + s) := by rw [show (8 : Int32) = nI 8 from rfl, pk_mul, nI_add]
  unfold wpX_define
  dsimp only
  rcases Nat.lt_or_ge c n with h | h
  · refine zz_cls h hn (br_f (by decide) (zz_sel hs8 (br_f (by decide) (pk_lt (1 + m) 1 (fun _ => h0 _) (fun _ => pk_le (1 + m) 1000 (fun _ => ?_) (fun _ => h0 _))))))
    rw [ei, nI_clamp (by omega), zb_k16 (1 + m) (by omega)]
    exact ⟨pk_in (c * 8 + s) 80 (by omega), nm_e (H _ _ ⟨n, a1, _, ⟨hn, hs.2.1, hs.2.2.1, zu_celm hs.2.2.2 (by omega)⟩, fl, fq, a3, a4, a5, a6, a7, a8, a9, a10, a11, a12, a13, a14, rfl, h6⟩)⟩
  · exact zz_cl0 h hc (br_t rfl (h0 _))
theorem zu_drop {post : Int32 → St1 → Prop} {n c s : Nat} (hn : n ≤ 10) (hc : c ≤ 300) (hs8 : s < 8) (H0 : (c < n → a2 (c * 8 + s) = 0) → post 0 (nI n, fb, fl, fq, a1, a2, a3, a4, a5, a6, a7, a8, a9, a10, a11, a12, a13, a14))
    (H1 : c < n → post 1 (nI n, 0, fl, fq, a1, upd a2 (c * 8 + s) 0, a3, a4, a5, a6, a7, a8, a9, a10, a11, a12, a13, a14)) : wpX_drop post (nI n, fb, fl, fq, a1, a2, a3, a4, a5, a6, a7, a8, a9, a10, a11, a12, a13, a14) (nI c) (nI s) := by
  have ei : nI c * 8 + nI s = nI (c * 8 + s) := by rw [show (8 : Int32) = nI 8 from rfl, pk_mul, nI_add]
  unfold wpX_drop
  dsimp only
  rcases Nat.lt_or_ge c n with h | h
  · refine zz_cls h hn (br_f (by decide) (zz_sel hs8 (br_f (by decide) ?_)))
    rw [ei, nI_clamp (by omega)]
    exact ⟨pk_in (c * 8 + s) 80 (by omega), br_c (fun z => H0 (fun _ => z)) (fun _ => ⟨pk_in (c * 8 + s) 80 (by omega), nm_e (H1 h)⟩)⟩
  · exact zz_cl0 h hc (br_t rfl (H0 (fun z => absurd z (by omega))))
theorem zu_dropV {post : Int32 → St1 → Prop} {n c s : Nat} (hs : zs_src n a1 a2) (h6 : zt_6 a6) (hc : c ≤ 300) (hs8 : s < 8) (H : ∀ r u', zu_V u' → post r u') : wpX_drop post (nI n, 0, fl, fq, a1, a2, a3, a4, a5, a6, a7, a8, a9, a10, a11, a12, a13, a14) (nI c) (nI s) :=
  zu_drop hs.1 hc hs8 (fun _ => H _ _ ⟨n, a1, a2, hs, fl, fq, a3, a4, a5, a6, a7, a8, a9, a10, a11, a12, a13, a14, rfl, h6⟩) (fun _ => H _ _ ⟨n, a1, _, ⟨hs.1, hs.2.1, hs.2.2.1, zu_cel0 hs.2.2.2⟩, fl, fq, a3, a4, a5, a6, a7, a8, a9, a10, a11, a12, a13, a14, rfl, h6⟩)
theorem zu_under {post : Int32 → Prop} {n c d : Nat} {rk : Nat → Nat} (hn : n ≤ 10) (hp : zs_par n a1) (hr : zs_rk n a1 rk) (hc : c < n) (hd : d < n) (H1 : post 1)
    (H0 : ∀ C : Nat → Prop, C d → ¬ C c → (∀ j q, j < n → q < n → C j → a1 j = nI q → C q) → post 0) : wpX_under post (f0, fb, fl, fq, a1, a2, a3, a4, a5, a6, a7, a8, a9, a10, a11, a12, a13, a14) (nI d) (nI c) := by
  have fin : ∀ V : Nat → Prop, ∀ e : Int32, e < 0 → ¬ V c → (∀ j q, j < n → q < n → V j → a1 j = nI q → V q ∨ e = nI q) → (V d ∨ e = nI d) → post 0 := by
    intro V e he v1 v2 v3
    have ne : ∀ q, q < n → ¬ e = nI q := fun q hq z => by
      rw [z] at he
      exact nI_pos (by omega) he
    exact H0 V (v3.resolve_right (ne d hd)) v1 (fun j q hj hq hv hz => (v2 j q hj hq hv hz).resolve_right (ne q hq))
  show ∃ f, wX_under_5 post (nI c) f0 fb fl fq a1 a2 a3 a4 a5 a6 a7 a8 a9 a10 a11 a12 a13 a14 f (nI d) 0
  refine pk_loop (fun f i (e : Int32) => wX_under_5 post (nI c) f0 fb fl fq a1 a2 a3 a4 a5 a6 a7 a8 a9 a10 a11 a12 a13 a14 f e (nI i)) (fun i e => ∃ V : Nat → Prop, ¬ V c ∧ (∀ j q, j < n → q < n → V j → a1 j = nI q → V q ∨ e = nI q) ∧ (V d ∨ e = nI d) ∧ (e = -1 ∨ ∃ m, m < n ∧ e = nI m ∧ rk m + i ≤ rk d)) 10 0 (nI d) (by omega) ⟨fun _ => False, fun z => z, fun j q _ _ z => absurd z (fun z => z), Or.inr rfl, Or.inr ⟨d, hd, rfl, by omega⟩⟩ ?_ ?_
  · rintro f e ⟨V, v1, v2, v3, v4⟩
    refine pk_le 10 10 (fun _ => ?_) (fun z => absurd z (by omega))
    rcases v4 with v4 | ⟨m, hm, _, v5⟩
    · exact fin V e (by rw [v4]; decide) v1 v2 v3
    · have := hr.1 d hd
      omega
  · rintro f i e hi ⟨V, v1, v2, v3, v4⟩ hw
    refine pk_le 10 i (fun z => absurd z (by omega)) (fun _ => br_c (fun he => fin V e he v1 v2 v3) (fun he => ?_))
    rcases v4 with v4 | ⟨m, hm, rfl, v5⟩
    · rw [v4] at he
      exact absurd zb_m1lt he
    · refine pk_eq m c (fun _ => H1) (fun z => ⟨pk_in m 10 (by omega), nm_r (e' := a1 m) (by rw [nI_clamp (by omega)]) (nm_r (nI_1 i) (hw _ ⟨fun j => V j ∨ j = m, ?_, fun j q hj hq hv ha => ?_, ?_, ?_⟩))⟩)
      · rintro (z1 | z1)
        · exact v1 z1
        · exact z z1.symm
      · rcases hv with hv | hv
        · rcases v2 j q hj hq hv ha with w | w
          · exact Or.inl (Or.inl w)
          · exact Or.inl (Or.inr ((nI_eq (by omega) (by omega)).mp w.symm))
        · rw [hv] at ha
          exact Or.inr ha
      · rcases v3 with w | w
        · exact Or.inl (Or.inl w)
        · exact Or.inl (Or.inr ((nI_eq (by omega) (by omega)).mp w.symm))
      · rcases hp m hm with w | ⟨p, hpn, w⟩
        · exact Or.inl w
        · have := hr.2 m p hm hpn w
          exact Or.inr ⟨p, hpn, w, by omega⟩
theorem zu_srcM {n c : Nat} {v : Int32} {rk : Nat → Nat} (hn : n ≤ 10) (hp : zs_par n a1) (hr : zs_rk n a1 rk) (hcel : zs_cel a2) (hv : zu_p n v) (hc : c < n)
    (hC : ∀ d, d < n → v = nI d → ∃ C : Nat → Prop, C d ∧ ¬ C c ∧ (∀ j q, j < n → q < n → C j → a1 j = nI q → C q)) : zs_src n (upd a1 c v) a2 := by
  refine ⟨hn, fun j hj => ?_, ?_, hcel⟩
  · by_cases ej : j = c
    · rw [ej, pk_us]
      exact hv
    · rw [pk_un ej]
      exact hp j hj
  · rcases hv with e | ⟨d, hd, e⟩
    · refine ⟨rk, hr.1, fun j p hj hpn ha => ?_⟩
      by_cases ej : j = c
      · rw [ej, pk_us, e] at ha
        exact absurd ha.symm (zb_ne1 (by omega))
      · rw [pk_un ej] at ha
        exact hr.2 j p hj hpn ha
    · obtain ⟨C, c1, c2, c3⟩ := hC d hd e
      classical
      refine zs_cmp (rk := fun j => if C j then rk j else rk j + n) (fun j p hj hpn ha => ?_)
      have b1 := hr.1 p hpn
      by_cases ej : j = c
      · rw [ej, pk_us, e] at ha
        have ed := (nI_eq (by omega) (by omega)).mp ha
        rw [ej, ← ed, if_pos c1, if_neg c2]
        have b2 := hr.1 d hd
        omega
      · rw [pk_un ej] at ha
        have b3 := hr.2 j p hj hpn ha
        by_cases cj : C j
        · rw [if_pos cj, if_pos (c3 j p hj hpn cj ha)]
          exact b3
        · rw [if_neg cj]
          split <;> omega
theorem zu_move {post : Int32 → St1 → Prop} {n c : Nat} {v : Int32} (hs : zs_src n a1 a2) (h6 : zt_6 a6) (hc : c ≤ 300) (hv : zu_p n v) (H : ∀ r u', zu_V u' → post r u') : wpX_move post (nI n, 0, fl, fq, a1, a2, a3, a4, a5, a6, a7, a8, a9, a10, a11, a12, a13, a14) (nI c) v := by
  have hn := hs.1
  have h0 : ∀ r, post r (nI n, 0, fl, fq, a1, a2, a3, a4, a5, a6, a7, a8, a9, a10, a11, a12, a13, a14) := fun r => H _ _ ⟨n, a1, a2, hs, fl, fq, a3, a4, a5, a6, a7, a8, a9, a10, a11, a12, a13, a14, rfl, h6⟩
  unfold wpX_move
  dsimp only
  rcases Nat.lt_or_ge c n with h | h
  · obtain ⟨_, hp, ⟨rk, hr⟩, hcel⟩ := hs
    have M : (∀ d, d < n → v = nI d → ∃ C : Nat → Prop, C d ∧ ¬ C c ∧ (∀ j q, j < n → q < n → C j → a1 j = nI q → C q)) → wX_move_39 post (nI c) v (nI n) 0 fl fq a1 a2 a3 a4 a5 a6 a7 a8 a9 a10 a11 a12 a13 a14 := by
      intro hC
      unfold wX_move_39
      refine ⟨pk_in c 10 (by omega), ?_⟩
      rw [nI_clamp (by omega), zu_p8 hn hv]
      exact nm_e (H _ _ ⟨n, _, a2, zu_srcM hn hp hr hcel hv h hC, fl, fq, a3, a4, a5, a6, a7, a8, a9, a10, a11, a12, a13, a14, rfl, h6⟩)
    have K : wX_move_23 post (nI c) v (nI n) 0 fl fq a1 a2 a3 a4 a5 a6 a7 a8 a9 a10 a11 a12 a13 a14 := by
      unfold wX_move_23
      refine br_c (fun e => M (fun d hd e' => absurd (e'.symm.trans e) (zb_ne1 (by omega)))) (fun hv1 => ?_)
      rcases hv with e | ⟨d, hd, rfl⟩
      · exact absurd e hv1
      · refine zu_under hn hp hr h hd (br_f (by decide) (h0 _)) (fun C c1 c2 c3 => br_t rfl (M (fun d' hd' e' => ?_)))
        have ed := (nI_eq (by omega) (by omega)).mp e'
        rw [← ed]
        exact ⟨C, c1, c2, c3⟩
    exact zz_cls h hn (br_f (by decide) (br_c (fun _ => K) (fun hv1 => zu_pcl hn hv hv1 (br_f (by decide) K))))
  · exact zz_cl0 h hc (br_t rfl (h0 _))
theorem zu_pv {n : Nat} (hn : n ≤ 10) (x : Int32) : zu_p n ((x &&& 255) - (x &&& 255) / (nI n + 1) * (nI n + 1) - 1) := by
  obtain ⟨j, hj, ej⟩ := pk_andE x (m := 255) 8 (by decide)
  have hj' : j < 256 := hj
  rw [ej, nI_1, pk_rem (by omega) (by omega) (by omega)]
  have hlt := Nat.mod_lt j (show 0 < n + 1 by omega)
  cases hr : j % (n + 1) with
  | zero => exact Or.inl (by decide)
  | succ r =>
    rw [nI_pred]
    exact Or.inr ⟨r, by omega, rfl⟩
theorem zu_23 {post : St1 → Prop} {n c : Nat} {x1 x2 x3 : Int32} (hs : zs_src n a1 a2) (h6 : zt_6 a6) (hc : c ≤ 300) (H : ∀ u', zu_V u' → post u') : wL_turn_23 post x1 x2 x3 (nI n) (nI c) (nI n) 0 fl fq a1 a2 a3 a4 a5 a6 a7 a8 a9 a10 a11 a12 a13 a14 := by
  have hn := hs.1
  obtain ⟨s, hs8, es⟩ := pk_andE x3 (m := 7) 3 (by decide)
  have hs8' : s < 8 := hs8
  obtain ⟨m, hm, em⟩ := pk_andE (x3 >>> ((3 : Int32) &&& 31)) (m := 511) 9 (by decide)
  have hm' : m < 512 := hm
  have hv := zu_pv hn (x2 >>> ((8 : Int32) &&& 31))
  have K : ∀ u', zu_V u' → post u' := H
  unfold wL_turn_23
  refine ⟨by rw [nI_1]; exact nI_ne0 (by omega) (by omega), nm_e ?_⟩
  rw [es, em, show (1 : Int32) + nI m = nI (1 + m) from by rw [show (1 : Int32) = nI 1 from rfl, nI_add]]
  refine br_c (fun _ => br_c (fun _ => br_c (fun _ => zu_move hs h6 hc hv (fun r u' hu => ?_)) (fun _ => zu_dropV hs h6 hc hs8' (fun r u' hu => ?_))) (fun _ => zu_define hs h6 hc hs8' hm' (fun r u' hu => ?_))) (fun _ => zu_add hs h6 hv (fun r u' hu => ?_))
  all_goals
    have hu' := hu
    obtain ⟨n', b1, b2, _, l, q, a3, a4, a5, a6, a7, a8, a9, a10, a11, a12, a13, a14, rfl, _⟩ := hu
    exact H _ hu'
theorem zu_turn {post : St1 → Prop} {u : St1} {x1 x2 x3 : Int32} (hu : zu_V u) (H : ∀ u', zu_V u' → post u') : wpL_turn post u x1 x2 x3 := by
  obtain ⟨n, a1, a2, hs, l, q, a3, a4, a5, a6, a7, a8, a9, a10, a11, a12, a13, a14, rfl, h6⟩ := hu
  have hn := hs.1
  refine pk_le n 0 (fun _ => zu_23 (c := 0) hs h6 (by omega) H) (fun h0 => ⟨nI_ne0 h0 (by omega), ?_⟩)
  obtain ⟨j, hj, ej⟩ := pk_andE x2 (m := 255) 8 (by decide)
  have hj' : j < 256 := hj
  have hlt := Nat.mod_lt j h0
  rw [ej, pk_rem (by omega) h0 (by omega)]
  exact zu_23 hs h6 (by omega) H
end
end
section
section
variable {f0 fb fl fq : Int32} {a1 a2 a3 a4 a5 a6 a7 a8 a9 a10 a11 a12 a13 a14 : Nat → Int32}
/-! ===== the law's parts ===== -/
theorem zw_one {post : Int32 → St1 → Prop} {n c s : Nat} {O : Nat → Nat → Nat} {u : St1} (hs : zs_src n a1 a2) (hO : zo_ok n a1 a2 O) (hu : zt_I n a1 a2 O u) (hc : c < n) (hs8 : s < 8)
    (H : ∀ u', zt_I n a1 a2 O u' → post 1 u') : wpL_one post u (nI c) (nI s) := by
  have hn := hs.1
  have hu' := hu
  obtain ⟨b, l, q, a3, a4, a5, a6, a7, a8, a9, a10, a11, a12, a13, a14, rfl, _, _⟩ := hu
  unfold wpL_one
  dsimp only
  refine zt_send hs hO hu' hc hs8 (fun u1 h1 => ?_)
  have h1' := h1
  obtain ⟨b, l, q, a3, a4, a5, a6, a7, a8, a9, a10, a11, a12, a13, a14, rfl, _, _⟩ := h1
  dsimp only
  refine zt_owner hs hO h1' hc hs8 (fun u2 h2 => ?_)
  have h2' := h2
  obtain ⟨b, l, q, a3, a4, a5, a6, a7, a8, a9, a10, a11, a12, a13, a14, rfl, _, _⟩ := h2
  dsimp only
  refine zt_und hs hO h2' hc (fun x u3 h3 hx => ?_)
  have h3' := h3
  obtain ⟨b, l, q, a3, a4, a5, a6, a7, a8, a9, a10, a11, a12, a13, a14, rfl, _, _⟩ := h3
  dsimp only
  by_cases ho : O c s < 10
  · have ev : zt_v a2 O c s = a2 (O c s * 8 + s) := by unfold zt_v; rw [if_pos ho]
    have eo : zt_o O c s = nI (O c s) := by unfold zt_o; rw [if_pos ho]
    rcases hO.2.2.2 c s hc with z | ⟨hon, hd⟩
    · omega
    obtain ⟨m, hm, em⟩ := hs.2.2.2 (O c s * 8 + s) (by omega)
    have hm0 : 0 < m := by
      rcases Nat.eq_zero_or_pos m with z | z
      · rw [z] at em
        exact absurd em hd
      · exact z
    rw [ev, eo, em]
    refine br_f (nI_nle hm0 (by omega)) ?_
    unfold wL_one_31
    refine br_t ((zb_t1 (by omega)).mpr (by rw [hx s hs8, decide_eq_true ho])) ?_
    unfold wL_one_46
    refine br_t rfl (br_f (zb_ne1 (by omega)) ?_)
    unfold wL_one_60
    refine br_f (nI_ne0 hm0 (by omega)) ?_
    unfold wL_one_69
    refine br_t rfl (zt_heirs hs hO h3' hon hs8 hd (fun y u4 h4 hy => ?_))
    have h4' := h4
    obtain ⟨b, l, q, a3, a4, a5, a6, a7, a8, a9, a10, a11, a12, a13, a14, rfl, _, _⟩ := h4
    exact br_f (nI_ne0 hm0 (by omega)) (br_t ((zb_t1 (by omega)).mpr (hy c hc rfl)) (H _ h4'))
  · have ev : zt_v a2 O c s = 0 := by unfold zt_v; rw [if_neg ho]
    have eo : zt_o O c s = -1 := by unfold zt_o; rw [if_neg ho]
    rw [ev, eo]
    refine br_t (by decide) ?_
    unfold wL_one_31
    refine br_f (fun z => ?_) ?_
    · have z' := (zb_t1 (by omega)).mp z
      rw [hx s hs8, decide_eq_false ho] at z'
      exact absurd z' (by decide)
    unfold wL_one_46
    refine br_t rfl (br_t rfl ?_)
    unfold wL_one_60
    refine br_t rfl ?_
    unfold wL_one_69
    exact br_t rfl (zt_heirsm h3' (br_t rfl (br_t rfl (H _ h3'))))
theorem zw_far {post : Int32 → St1 → Prop} {n : Nat} {O : Nat → Nat → Nat} {u : St1} (hs : zs_src n a1 a2) (hO : zo_ok n a1 a2 O) (hu : zt_I n a1 a2 O u) (H : ∀ u', zt_I n a1 a2 O u' → post 1 u') : wpL_far post u := by
  have hu' := hu
  obtain ⟨b, l, q, a3, a4, a5, a6, a7, a8, a9, a10, a11, a12, a13, a14, rfl, _, _⟩ := hu
  show ∃ f, wL_far_4 post f 1 0 (nI n) b l q a1 a2 a3 a4 a5 a6 a7 a8 a9 a10 a11 a12 a13 a14
  have key := pk_loop (fun f i (v : St1) => wL_far_4 post f 1 (nI i) v.1 v.2.1 v.2.2.1 v.2.2.2.1 v.2.2.2.2.1 v.2.2.2.2.2.1 v.2.2.2.2.2.2.1 v.2.2.2.2.2.2.2.1 v.2.2.2.2.2.2.2.2.1 v.2.2.2.2.2.2.2.2.2.1 v.2.2.2.2.2.2.2.2.2.2.1 v.2.2.2.2.2.2.2.2.2.2.2.1 v.2.2.2.2.2.2.2.2.2.2.2.2.1 v.2.2.2.2.2.2.2.2.2.2.2.2.2.1 v.2.2.2.2.2.2.2.2.2.2.2.2.2.2.1 v.2.2.2.2.2.2.2.2.2.2.2.2.2.2.2.1 v.2.2.2.2.2.2.2.2.2.2.2.2.2.2.2.2.1 v.2.2.2.2.2.2.2.2.2.2.2.2.2.2.2.2.2) (fun _ v => zt_I n a1 a2 O v) 8 0 (nI n, b, l, q, a1, a2, a3, a4, a5, a6, a7, a8, a9, a10, a11, a12, a13, a14) (by omega) hu' ?_ ?_
  · exact key
  · intro f v hI
    have hI' := hI
    obtain ⟨b, l, q, a3, a4, a5, a6, a7, a8, a9, a10, a11, a12, a13, a14, rfl, _, _⟩ := hI
    exact pk_le 8 8 (fun _ => ⟨rfl, H _ hI'⟩) (fun z => absurd z (by omega))
  · intro f s v hs8 hI hw
    have hI' := hI
    obtain ⟨b, l, q, a3, a4, a5, a6, a7, a8, a9, a10, a11, a12, a13, a14, rfl, _, _⟩ := hI
    refine pk_le 8 s (fun z => absurd z (by omega)) (fun _ => ?_)
    have key2 := pk_loop (fun g i (w : St1) => wL_far_12 post (wL_far_4 post f) (nI s) g 1 (nI i) w.1 w.2.1 w.2.2.1 w.2.2.2.1 w.2.2.2.2.1 w.2.2.2.2.2.1 w.2.2.2.2.2.2.1 w.2.2.2.2.2.2.2.1 w.2.2.2.2.2.2.2.2.1 w.2.2.2.2.2.2.2.2.2.1 w.2.2.2.2.2.2.2.2.2.2.1 w.2.2.2.2.2.2.2.2.2.2.2.1 w.2.2.2.2.2.2.2.2.2.2.2.2.1 w.2.2.2.2.2.2.2.2.2.2.2.2.2.1 w.2.2.2.2.2.2.2.2.2.2.2.2.2.2.1 w.2.2.2.2.2.2.2.2.2.2.2.2.2.2.2.1 w.2.2.2.2.2.2.2.2.2.2.2.2.2.2.2.2.1 w.2.2.2.2.2.2.2.2.2.2.2.2.2.2.2.2.2) (fun _ w => zt_I n a1 a2 O w) 8 0 (nI n, b, l, q, a1, a2, a3, a4, a5, a6, a7, a8, a9, a10, a11, a12, a13, a14) (by omega) hI' ?_ ?_
    · exact key2
    · intro g w hJ
      have hJ' := hJ
      obtain ⟨b, l, q, a3, a4, a5, a6, a7, a8, a9, a10, a11, a12, a13, a14, rfl, _, _⟩ := hJ
      exact pk_le 8 8 (fun _ => nm_r (nI_1 s) (hw _ hJ')) (fun z => absurd z (by omega))
    · intro g t w ht8 hJ hw2
      have hJ' := hJ
      obtain ⟨b, l, q, a3, a4, a5, a6, a7, a8, a9, a10, a11, a12, a13, a14, rfl, _, _⟩ := hJ
      refine pk_le 8 t (fun z => absurd z (by omega)) (fun _ => ?_)
      dsimp only
      refine zt_apart hs hO hJ' hs8 (fun x u1 k1 hx => ?_)
      have k1' := k1
      obtain ⟨b, l, q, a3, a4, a5, a6, a7, a8, a9, a10, a11, a12, a13, a14, rfl, _, _⟩ := k1
      dsimp only
      refine zt_apart hs hO k1' ht8 (fun y u2 k2 hy => ?_)
      have k2' := k2
      obtain ⟨b, l, q, a3, a4, a5, a6, a7, a8, a9, a10, a11, a12, a13, a14, rfl, _, _⟩ := k2
      dsimp only
      refine br_f (by decide) (br_t ?_ (nm_r (nI_1 t) (hw2 _ k2')))
      have e : zb_t x t = zb_t y s := by
        rw [Bool.eq_iff_iff, hx t ht8, hy s hs8]
        exact ⟨fun z => ⟨fun w => z.1 (zm_Ps w), fun w => z.2 w.symm⟩, fun z => ⟨fun w => z.1 (zm_Ps w), fun w => z.2 w.symm⟩⟩
      rw [zb_tst x (by omega), zb_tst y (by omega), e]
theorem zt_super {post : Int32 → St1 → Prop} {n c s : Nat} {O : Nat → Nat → Nat} {u : St1} (hs : zs_src n a1 a2) (hO : zo_ok n a1 a2 O) (hu : zt_I n a1 a2 O u) (hc : c < n) (hs8 : s < 8) (hd : a2 (c * 8 + s) = 0)
    (H : ∀ u', zt_I n a1 a2 O u' → post (zt_v a2 O c s) u') : wpX_sendSuper post u (nI c) (nI s) := by
  have hn := hs.1
  have hu' := hu
  obtain ⟨b, l, q, a3, a4, a5, a6, a7, a8, a9, a10, a11, a12, a13, a14, rfl, _, _⟩ := hu
  unfold wpX_sendSuper
  dsimp only
  refine zz_cls hc hn (br_f (by decide) ⟨pk_in c 10 (by omega), ?_⟩)
  rw [nI_clamp (by omega)]
  rcases hs.2.1 c hc with e | ⟨p, hp, e⟩
  · rw [e]
    refine br_f (by decide) ?_
    have h := H _ hu'
    unfold zt_v at h
    rw [if_neg (by rw [hO.2.1 c s hc hd e]; omega)] at h
    exact h
  · rw [e]
    refine br_t (nI_pos' (by omega)) ⟨pk_in c 10 (by omega), zt_send hs hO hu' hp hs8 (fun u1 h1 => ?_)⟩
    have h := H _ h1
    unfold zt_v at h ⊢
    rw [hO.2.2.1 c s p hc hp hd e] at h
    obtain ⟨b, l, q, a3, a4, a5, a6, a7, a8, a9, a10, a11, a12, a13, a14, rfl, _, _⟩ := h1
    exact h
theorem zt_send0 {post : Int32 → St1 → Prop} {n c s : Nat} (hc : n ≤ c) (hc3 : c ≤ 300) (H : post 0 (nI n, fb, fl, fq, a1, a2, a3, a4, a5, a6, a7, a8, a9, a10, a11, a12, a13, a14)) : wpX_send post (nI n, fb, fl, fq, a1, a2, a3, a4, a5, a6, a7, a8, a9, a10, a11, a12, a13, a14) (nI c) (nI s) := by
  unfold wpX_send
  dsimp only
  unfold wpX_entry
  dsimp only
  exact zz_cl0 hc hc3 (br_t rfl (br_f (by decide) H))
theorem zt_super0 {post : Int32 → St1 → Prop} {n c s : Nat} (hc : n ≤ c) (hc3 : c ≤ 300) (H : post 0 (nI n, fb, fl, fq, a1, a2, a3, a4, a5, a6, a7, a8, a9, a10, a11, a12, a13, a14)) : wpX_sendSuper post (nI n, fb, fl, fq, a1, a2, a3, a4, a5, a6, a7, a8, a9, a10, a11, a12, a13, a14) (nI c) (nI s) := by
  unfold wpX_sendSuper
  dsimp only
  exact zz_cl0 hc hc3 (br_t rfl H)
theorem zw_177 {n c s L kc ks : Nat} {xs : Nat → Int32} {O : Nat → Nat → Nat} {u : St1} (hs : zs_src n a1 a2) (hO : zo_ok n a1 a2 O) (hu : zt_I n a1 a2 O u) (hc : c ≤ 300) (hs8 : s < 8) :
    wL_law_177 (fun r => r = 1) L xs (nI c) (nI s) 1 kc ks u.1 u.2.1 u.2.2.1 u.2.2.2.1 u.2.2.2.2.1 u.2.2.2.2.2.1 u.2.2.2.2.2.2.1 u.2.2.2.2.2.2.2.1 u.2.2.2.2.2.2.2.2.1 u.2.2.2.2.2.2.2.2.2.1 u.2.2.2.2.2.2.2.2.2.2.1 u.2.2.2.2.2.2.2.2.2.2.2.1 u.2.2.2.2.2.2.2.2.2.2.2.2.1 u.2.2.2.2.2.2.2.2.2.2.2.2.2.1 u.2.2.2.2.2.2.2.2.2.2.2.2.2.2.1 u.2.2.2.2.2.2.2.2.2.2.2.2.2.2.2.1 u.2.2.2.2.2.2.2.2.2.2.2.2.2.2.2.2.1 u.2.2.2.2.2.2.2.2.2.2.2.2.2.2.2.2.2 := by
  have hu' := hu
  obtain ⟨b, l, q, a3, a4, a5, a6, a7, a8, a9, a10, a11, a12, a13, a14, rfl, h6, _⟩ := hu
  unfold wL_law_177
  dsimp only
  refine zu_drop hs.1 hc hs8 (fun h0 => ?_) (fun hcn => ?_)
  · dsimp only
    refine br_f (by decide) ?_
    rcases Nat.lt_or_ge c n with h | h
    · refine zt_send hs hO hu' h hs8 (fun u1 h1 => ?_)
      have h1' := h1
      obtain ⟨b, l, q, a3, a4, a5, a6, a7, a8, a9, a10, a11, a12, a13, a14, rfl, _, _⟩ := h1
      dsimp only
      refine zt_super hs hO h1' h hs8 (h0 h) (fun u2 h2 => ?_)
      obtain ⟨b, l, q, a3, a4, a5, a6, a7, a8, a9, a10, a11, a12, a13, a14, rfl, _, _⟩ := h2
      exact br_t rfl rfl
    · refine zt_send0 h hc ?_
      dsimp only
      refine zt_super0 h hc ?_
      exact br_t rfl rfl
  · dsimp only
    refine br_f (by decide) ?_
    have hs' : zs_src n a1 (upd a2 (c * 8 + s) 0) := ⟨hs.1, hs.2.1, hs.2.2.1, zu_cel0 hs.2.2.2⟩
    obtain ⟨O', hO'⟩ := zo_ex hs'
    have hu2 : zt_I n a1 (upd a2 (c * 8 + s) 0) O' (nI n, 0, l, q, a1, upd a2 (c * 8 + s) 0, a3, a4, a5, a6, a7, a8, a9, a10, a11, a12, a13, a14) := ⟨0, l, q, a3, a4, a5, a6, a7, a8, a9, a10, a11, a12, a13, a14, rfl, h6, Or.inl rfl⟩
    refine zt_send hs' hO' hu2 hcn hs8 (fun u1 h1 => ?_)
    have h1' := h1
    obtain ⟨b, l, q, a3, a4, a5, a6, a7, a8, a9, a10, a11, a12, a13, a14, rfl, _, _⟩ := h1
    dsimp only
    refine zt_super hs' hO' h1' hcn hs8 pk_us (fun u2 h2 => ?_)
    obtain ⟨b, l, q, a3, a4, a5, a6, a7, a8, a9, a10, a11, a12, a13, a14, rfl, _, _⟩ := h2
    exact br_t rfl rfl
theorem zw_146 {n c s r cc L kc ks : Nat} {xs : Nat → Int32} {O : Nat → Nat → Nat} {u : St1} (hs : zs_src n a1 a2) (hO : zo_ok n a1 a2 O) (hu : zt_I n a1 a2 O u) (hc : c ≤ 300) (hs8 : s < 8) (hr : r ≤ cc) (hcc : cc ≤ 8) :
    wL_law_146 (fun r => r = 1) L xs (nI r) (nI cc) (nI c) (nI s) kc ks u.1 u.2.1 u.2.2.1 u.2.2.2.1 u.2.2.2.2.1 u.2.2.2.2.2.1 u.2.2.2.2.2.2.1 u.2.2.2.2.2.2.2.1 u.2.2.2.2.2.2.2.2.1 u.2.2.2.2.2.2.2.2.2.1 u.2.2.2.2.2.2.2.2.2.2.1 u.2.2.2.2.2.2.2.2.2.2.2.1 u.2.2.2.2.2.2.2.2.2.2.2.2.1 u.2.2.2.2.2.2.2.2.2.2.2.2.2.1 u.2.2.2.2.2.2.2.2.2.2.2.2.2.2.1 u.2.2.2.2.2.2.2.2.2.2.2.2.2.2.2.1 u.2.2.2.2.2.2.2.2.2.2.2.2.2.2.2.2.1 u.2.2.2.2.2.2.2.2.2.2.2.2.2.2.2.2.2 := by
  have hu' := hu
  obtain ⟨b, l, q, a3, a4, a5, a6, a7, a8, a9, a10, a11, a12, a13, a14, rfl, h6, _⟩ := hu
  unfold wL_law_146
  dsimp only
  refine zw_far hs hO hu' (fun u1 h1 => ?_)
  have h1' := h1
  obtain ⟨b, l, q, a3, a4, a5, a6, a7, a8, a9, a10, a11, a12, a13, a14, rfl, _, _⟩ := h1
  dsimp only
  exact br_f (by decide) (br_f (nI_pos (by omega)) (br_f (nI_nlt hr (by omega)) (br_f (nI_nlt (a := 8) hcc (by decide)) (zw_177 hs hO h1' hc hs8))))
theorem zw_126 {n c r cc L kc ks : Nat} {xs : Nat → Int32} {O : Nat → Nat → Nat} {u : St1} (hL : L ≤ 260) (hs : zs_src n a1 a2) (hO : zo_ok n a1 a2 O) (hu : zt_I n a1 a2 O u) (hc : c ≤ 300) (hr : r ≤ cc) (hcc : cc ≤ 8) :
    wL_law_126 (fun r => r = 1) L xs (nI r) (nI cc) (nI c) kc ks u.1 u.2.1 u.2.2.1 u.2.2.2.1 u.2.2.2.2.1 u.2.2.2.2.2.1 u.2.2.2.2.2.2.1 u.2.2.2.2.2.2.2.1 u.2.2.2.2.2.2.2.2.1 u.2.2.2.2.2.2.2.2.2.1 u.2.2.2.2.2.2.2.2.2.2.1 u.2.2.2.2.2.2.2.2.2.2.2.1 u.2.2.2.2.2.2.2.2.2.2.2.2.1 u.2.2.2.2.2.2.2.2.2.2.2.2.2.1 u.2.2.2.2.2.2.2.2.2.2.2.2.2.2.1 u.2.2.2.2.2.2.2.2.2.2.2.2.2.2.2.1 u.2.2.2.2.2.2.2.2.2.2.2.2.2.2.2.2.1 u.2.2.2.2.2.2.2.2.2.2.2.2.2.2.2.2.2 := by
  unfold wL_law_126
  refine pk_le L 0 (fun _ => zw_146 (s := 0) hs hO hu hc (by omega) hr hcc) (fun h0 => ⟨pk_in 0 L h0, ?_⟩)
  obtain ⟨s, hs8, es⟩ := pk_andE (xs (0 : Int32).toNatClampNeg >>> ((16 : Int32) &&& 31)) (m := 7) 3 (by decide)
  rw [es]
  exact zw_146 hs hO hu hc hs8 hr hcc
theorem zw_51 {n L kc ks : Nat} {xs : Nat → Int32} {O : Nat → Nat → Nat} {u : St1} (hL : L ≤ 260) (hs : zs_src n a1 a2) (hO : zo_ok n a1 a2 O) (hu : zt_I n a1 a2 O u) :
    ∃ f, wL_law_51 (fun r => r = 1) L xs (nI n) kc ks f 0 u.1 u.2.1 u.2.2.1 u.2.2.2.1 u.2.2.2.2.1 u.2.2.2.2.2.1 u.2.2.2.2.2.2.1 u.2.2.2.2.2.2.2.1 u.2.2.2.2.2.2.2.2.1 u.2.2.2.2.2.2.2.2.2.1 u.2.2.2.2.2.2.2.2.2.2.1 u.2.2.2.2.2.2.2.2.2.2.2.1 u.2.2.2.2.2.2.2.2.2.2.2.2.1 u.2.2.2.2.2.2.2.2.2.2.2.2.2.1 u.2.2.2.2.2.2.2.2.2.2.2.2.2.2.1 u.2.2.2.2.2.2.2.2.2.2.2.2.2.2.2.1 u.2.2.2.2.2.2.2.2.2.2.2.2.2.2.2.2.1 u.2.2.2.2.2.2.2.2.2.2.2.2.2.2.2.2.2 := by
  have hn := hs.1
  refine pk_loop (fun f i (v : St1) => wL_law_51 (fun r => r = 1) L xs (nI n) kc ks f (nI i) v.1 v.2.1 v.2.2.1 v.2.2.2.1 v.2.2.2.2.1 v.2.2.2.2.2.1 v.2.2.2.2.2.2.1 v.2.2.2.2.2.2.2.1 v.2.2.2.2.2.2.2.2.1 v.2.2.2.2.2.2.2.2.2.1 v.2.2.2.2.2.2.2.2.2.2.1 v.2.2.2.2.2.2.2.2.2.2.2.1 v.2.2.2.2.2.2.2.2.2.2.2.2.1 v.2.2.2.2.2.2.2.2.2.2.2.2.2.1 v.2.2.2.2.2.2.2.2.2.2.2.2.2.2.1 v.2.2.2.2.2.2.2.2.2.2.2.2.2.2.2.1 v.2.2.2.2.2.2.2.2.2.2.2.2.2.2.2.2.1 v.2.2.2.2.2.2.2.2.2.2.2.2.2.2.2.2.2) (fun _ v => zt_I n a1 a2 O v) n 0 u (by omega) hu ?_ ?_
  · intro f v hI
    have hI' := hI
    obtain ⟨b, l, q, a3, a4, a5, a6, a7, a8, a9, a10, a11, a12, a13, a14, rfl, _, _⟩ := hI
    refine pk_le n n (fun _ => ?_) (fun z => absurd z (by omega))
    refine zt_crowd hs hO hI' (fun r u1 h1 hr8 hr => ?_)
    have h1' := h1
    obtain ⟨b, l, q, a3, a4, a5, a6, a7, a8, a9, a10, a11, a12, a13, a14, rfl, _, _⟩ := h1
    dsimp only
    refine zt_colours hs hO h1' (fun cc u2 h2 hcc hcol => ?_)
    have h2' := h2
    obtain ⟨b, l, q, a3, a4, a5, a6, a7, a8, a9, a10, a11, a12, a13, a14, rfl, _, _⟩ := h2
    dsimp only
    have hrc := hr cc hcol
    have A : wL_law_125 (fun r => r = 1) L xs (nI r) (nI cc) kc ks (nI n) b l q a1 a2 a3 a4 a5 a6 a7 a8 a9 a10 a11 a12 a13 a14 := by
      unfold wL_law_125
      exact zw_126 (c := 0) hL hs hO h2' (by omega) hrc hcc
    refine pk_le L 0 (fun _ => A) (fun h0 => pk_le n 0 (fun _ => A) (fun hn0 => ⟨pk_in 0 L h0, nI_ne0 hn0 (by omega), ?_⟩))
    obtain ⟨j, hj, ej⟩ := pk_andE (xs (0 : Int32).toNatClampNeg >>> ((8 : Int32) &&& 31)) (m := 255) 8 (by decide)
    have hj' : j < 256 := hj
    have hlt := Nat.mod_lt j hn0
    rw [ej, pk_rem (by omega) hn0 (by omega)]
    exact zw_126 hL hs hO h2' (by omega) hrc hcc
  · intro f c v hc hI hw
    have hI' := hI
    obtain ⟨b, l, q, a3, a4, a5, a6, a7, a8, a9, a10, a11, a12, a13, a14, rfl, _, _⟩ := hI
    refine pk_le n c (fun z => absurd z (by omega)) (fun _ => ?_)
    have key2 := pk_loop (fun g i (w : St1) => wL_law_59 (fun r => r = 1) L xs (wL_law_51 (fun r => r = 1) L xs (nI n) kc ks f) (nI n) (nI c) kc ks g (nI i) w.1 w.2.1 w.2.2.1 w.2.2.2.1 w.2.2.2.2.1 w.2.2.2.2.2.1 w.2.2.2.2.2.2.1 w.2.2.2.2.2.2.2.1 w.2.2.2.2.2.2.2.2.1 w.2.2.2.2.2.2.2.2.2.1 w.2.2.2.2.2.2.2.2.2.2.1 w.2.2.2.2.2.2.2.2.2.2.2.1 w.2.2.2.2.2.2.2.2.2.2.2.2.1 w.2.2.2.2.2.2.2.2.2.2.2.2.2.1 w.2.2.2.2.2.2.2.2.2.2.2.2.2.2.1 w.2.2.2.2.2.2.2.2.2.2.2.2.2.2.2.1 w.2.2.2.2.2.2.2.2.2.2.2.2.2.2.2.2.1 w.2.2.2.2.2.2.2.2.2.2.2.2.2.2.2.2.2) (fun _ w => zt_I n a1 a2 O w) 8 0 (nI n, b, l, q, a1, a2, a3, a4, a5, a6, a7, a8, a9, a10, a11, a12, a13, a14) (by omega) hI' ?_ ?_
    · exact key2
    · intro g w hJ
      have hJ' := hJ
      obtain ⟨b, l, q, a3, a4, a5, a6, a7, a8, a9, a10, a11, a12, a13, a14, rfl, _, _⟩ := hJ
      exact pk_le 8 8 (fun _ => nm_r (nI_1 c) (hw _ hJ')) (fun z => absurd z (by omega))
    · intro g s w hs8 hJ hw2
      have hJ' := hJ
      obtain ⟨b, l, q, a3, a4, a5, a6, a7, a8, a9, a10, a11, a12, a13, a14, rfl, _, _⟩ := hJ
      refine pk_le 8 s (fun z => absurd z (by omega)) (fun _ => ?_)
      dsimp only
      refine zw_one hs hO hJ' hc hs8 (fun u1 h1 => ?_)
      have h1' := h1
      obtain ⟨b, l, q, a3, a4, a5, a6, a7, a8, a9, a10, a11, a12, a13, a14, rfl, _, _⟩ := h1
      exact br_f (by decide) (nm_r (nI_1 s) (hw2 _ h1'))
theorem zw_10 {L kc ks : Nat} {xs : Nat → Int32} {u : St1} (hL : L ≤ 260) (hu : zu_V u) : ∃ f, wL_law_10 (fun r => r = 1) L xs kc ks f 0 u.1 u.2.1 u.2.2.1 u.2.2.2.1 u.2.2.2.2.1 u.2.2.2.2.2.1 u.2.2.2.2.2.2.1 u.2.2.2.2.2.2.2.1 u.2.2.2.2.2.2.2.2.1 u.2.2.2.2.2.2.2.2.2.1 u.2.2.2.2.2.2.2.2.2.2.1 u.2.2.2.2.2.2.2.2.2.2.2.1 u.2.2.2.2.2.2.2.2.2.2.2.2.1 u.2.2.2.2.2.2.2.2.2.2.2.2.2.1 u.2.2.2.2.2.2.2.2.2.2.2.2.2.2.1 u.2.2.2.2.2.2.2.2.2.2.2.2.2.2.2.1 u.2.2.2.2.2.2.2.2.2.2.2.2.2.2.2.2.1 u.2.2.2.2.2.2.2.2.2.2.2.2.2.2.2.2.2 := by
  have e2 : ∀ i, nI (3 * i) + 2 = nI (3 * i + 2) := fun i => by rw [show (2 : Int32) = nI 2 from rfl, nI_add]
  refine pk_loop (fun f i (v : St1) => wL_law_10 (fun r => r = 1) L xs kc ks f (nI (3 * i)) v.1 v.2.1 v.2.2.1 v.2.2.2.1 v.2.2.2.2.1 v.2.2.2.2.2.1 v.2.2.2.2.2.2.1 v.2.2.2.2.2.2.2.1 v.2.2.2.2.2.2.2.2.1 v.2.2.2.2.2.2.2.2.2.1 v.2.2.2.2.2.2.2.2.2.2.1 v.2.2.2.2.2.2.2.2.2.2.2.1 v.2.2.2.2.2.2.2.2.2.2.2.2.1 v.2.2.2.2.2.2.2.2.2.2.2.2.2.1 v.2.2.2.2.2.2.2.2.2.2.2.2.2.2.1 v.2.2.2.2.2.2.2.2.2.2.2.2.2.2.2.1 v.2.2.2.2.2.2.2.2.2.2.2.2.2.2.2.2.1 v.2.2.2.2.2.2.2.2.2.2.2.2.2.2.2.2.2) (fun _ v => zu_V v) (L / 3) 0 u (by omega) hu ?_ ?_
  · intro f v hV
    obtain ⟨n, a1, a2, hs, l, q, a3, a4, a5, a6, a7, a8, a9, a10, a11, a12, a13, a14, rfl, h6⟩ := hV
    refine pk_le L (3 * (L / 3) + 2) (fun _ => ?_) (fun z => absurd z (by omega)) rfl (e2 _)
    obtain ⟨O, hO⟩ := zo_ex hs
    exact zw_51 hL hs hO ⟨0, l, q, a3, a4, a5, a6, a7, a8, a9, a10, a11, a12, a13, a14, rfl, h6, Or.inl rfl⟩
  · intro f i v hi hV hw
    have hV' := hV
    obtain ⟨n, a1, a2, hs, l, q, a3, a4, a5, a6, a7, a8, a9, a10, a11, a12, a13, a14, rfl, h6⟩ := hV
    refine pk_le L (3 * i + 2) (fun z => absurd z (by omega)) (fun _ => ⟨pk_in (3 * i) L (by omega), pk_in (3 * i + 1) L (by omega) (nI_1 _), pk_in (3 * i + 2) L (by omega) (e2 i), ?_⟩) rfl (e2 i)
    dsimp only
    refine zu_turn hV' (fun u1 h1 => ?_)
    have h1' := h1
    obtain ⟨n, a1, a2, hs, l, q, a3, a4, a5, a6, a7, a8, a9, a10, a11, a12, a13, a14, rfl, h6⟩ := h1
    exact nm_r (e' := nI (3 * (i + 1))) (by rw [show (3 : Int32) = nI 3 from rfl, nI_add, show 3 * i + 3 = 3 * (i + 1) by omega]) (hw _ h1')
end
end
section
theorem zw_v0 : zu_V (0, 0, 0, 0, (fun _ => 0), (fun _ => 0), (fun _ => 0), (fun _ => 0), (fun _ => 0), (fun _ => 0), (fun _ => 0), (fun _ => 0), (fun _ => 0), (fun _ => 0), (fun _ => 0), (fun _ => 0), (fun _ => 0), (fun _ => 0)) :=
  ⟨0, fun _ => 0, fun _ => 0, ⟨by omega, fun j hj => absurd hj (by omega), ⟨fun _ => 0, fun j hj => absurd hj (by omega), fun j p hj => absurd hj (by omega)⟩, fun i _ => ⟨0, by omega, rfl⟩⟩, 0, 0, _, _, _, _, _, _, _, _, _, _, _, _, rfl, fun s _ => ⟨0, by omega, rfl⟩⟩
theorem i_vc (xs : Nat → Int32) (L : Nat) (hL : L ≤ 260) : wpL_law (fun r => r = 1) L xs := by
  unfold wpL_law
  refine ⟨14, 544, by omega, by omega, ?_⟩
  unfold wpX_init
  dsimp only
  refine ⟨by omega, by omega, by omega, by omega, by omega, by omega, by omega, by omega, by omega, by omega, by omega, by omega, by omega, by omega, by omega, by omega, by omega, by omega, by omega, by omega, by omega, by omega, by omega, by omega, by omega, by omega, by omega, by omega, ?_⟩
  exact zw_10 hL zw_v0
end
