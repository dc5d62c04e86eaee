section
/-! loops, arrays, bits: plain rows -/
def qv_it {σ : Type} (f : Nat → σ → σ) : Nat → σ → σ
  | 0, s => s
  | n + 1, s => f n (qv_it f n s)
theorem qv_it_inv {σ : Type} (f : Nat → σ → σ) (P : σ → Prop) (e : Nat) (s : σ) (h0 : P s) (h : ∀ i s, i < e → P s → P (f i s)) : P (qv_it f e s) := by
  have key : ∀ i, i ≤ e → P (qv_it f i s) := by
    intro i
    induction i with
    | zero => intro _; exact h0
    | succ i ih => intro hi; exact h i _ (by omega) (ih (by omega))
  exact key e (Nat.le_refl e)
/-- a loop that counts up from 0 to e -/
theorem qv_for {σ : Type} (W : Nat → Int32 → σ → Prop) (f : Nat → σ → σ) (I : Nat → σ → Prop) (e : Nat) (s0 : σ)
    (h0 : I 0 s0) (hI : ∀ i s, i < e → I i s → I (i + 1) (f i s))
    (hs : ∀ n i s, i < e → I i s → W n (nI (i + 1)) (f i s) → W (n + 1) (nI i) s)
    (hx : ∀ n, I e (qv_it f e s0) → W (n + 1) (nI e) (qv_it f e s0)) : ∃ n, W n 0 s0 := by
  have key : ∀ d i, i + d = e → I i (qv_it f i s0) → W (d + 1) (nI i) (qv_it f i s0) := by
    intro d
    induction d with
    | zero =>
      intro i hi h
      have e1 : i = e := by omega
      subst e1
      exact hx 0 h
    | succ d ih =>
      intro i hi h
      exact hs (d + 1) i _ (by omega) h (ih (i + 1) (by omega) (hI i _ (by omega) h))
  exact ⟨e + 1, key e 0 (by omega) h0⟩
/-- the same, nothing to keep -/
theorem qv_fo {σ : Type} (W : Nat → Int32 → σ → Prop) (f : Nat → σ → σ) (e : Nat) (s0 : σ)
    (hs : ∀ n i s, i < e → W n (nI (i + 1)) (f i s) → W (n + 1) (nI i) s)
    (hx : ∀ n, W (n + 1) (nI e) (qv_it f e s0)) : ∃ n, W n 0 s0 :=
  qv_for W f (fun _ _ => True) e s0 trivial (fun _ _ _ _ => trivial) (fun n i s hi _ h => hs n i s hi h) (fun n _ => hx n)
/-- a loop that counts up, an invariant alone -/
theorem qv_up {σ : Type} (W : Nat → Int32 → σ → Prop) (I : Nat → σ → Prop) (i0 e : Nat) (s0 : σ) (hi : i0 ≤ e) (h0 : I i0 s0)
    (hs : ∀ n i s, i0 ≤ i → i < e → I i s → (∀ s', I (i + 1) s' → W n (nI (i + 1)) s') → W (n + 1) (nI i) s)
    (hx : ∀ n s, I e s → W (n + 1) (nI e) s) : ∃ n, W n (nI i0) s0 := by
  have key : ∀ d i s, i0 ≤ i → i + d = e → I i s → W (d + 1) (nI i) s := by
    intro d
    induction d with
    | zero =>
      intro i s _ hi h
      have e1 : i = e := by omega
      subst e1
      exact hx 0 s h
    | succ d ih =>
      intro i s h1 hi h
      exact hs (d + 1) i s h1 (by omega) h (fun s' h' => ih (i + 1) s' (by omega) (by omega) h')
  exact ⟨(e - i0) + 1, key (e - i0) i0 s0 (Nat.le_refl _) (by omega) h0⟩
def qv_allb (p : Nat → Bool) : Nat → Bool
  | 0 => true
  | n + 1 => qv_allb p n && p n
theorem qv_allb_iff (p : Nat → Bool) (n : Nat) : qv_allb p n = true ↔ ∀ i, i < n → p i = true := by
  induction n with
  | zero => exact ⟨fun _ i hi => absurd hi (by omega), fun _ => rfl⟩
  | succ n ih =>
    show (qv_allb p n && p n) = true ↔ _
    rw [Bool.and_eq_true, ih]
    constructor
    · intro ⟨h1, h2⟩ i hi
      by_cases e : i = n
      · rw [e]; exact h2
      · exact h1 i (by omega)
    · intro h
      exact ⟨fun i hi => h i (by omega), h n (by omega)⟩
def qv_oI (b : Bool) : Int32 := if b then 1 else 0
/-- 'for (b = 0; b < e && good; b++) good = p b' -/
theorem qv_all (W : Nat → Int32 → Int32 → Prop) (K : Int32 → Prop) (p : Nat → Bool) (e : Nat)
    (hx : ∀ n x, K x → W (n + 1) x (nI e))
    (h0 : ∀ n i, i < e → K 0 → W (n + 1) 0 (nI i))
    (hs : ∀ n i, i < e → W n (qv_oI (p i)) (nI (i + 1)) → W (n + 1) 1 (nI i))
    (H : K (qv_oI (qv_allb p e))) : ∃ n, W n 1 0 := by
  have key : ∀ d i, i + d = e → qv_allb p i = true → W (d + 1) 1 (nI i) := by
    intro d
    induction d with
    | zero =>
      intro i hi h
      have e1 : i = e := by omega
      subst e1
      rw [h] at H
      exact hx 0 1 H
    | succ d ih =>
      intro i hi h
      refine hs (d + 1) i (by omega) ?_
      by_cases hp : p i = true
      · rw [hp]
        refine ih (i + 1) (by omega) ?_
        show (qv_allb p i && p i) = true
        rw [h, hp]; rfl
      · have hp' : p i = false := by
          cases hh : p i with
          | true => exact absurd hh hp
          | false => rfl
        have hK : K 0 := by
          have : qv_allb p e = false := by
            cases hh : qv_allb p e with
            | false => rfl
            | true => exact absurd ((qv_allb_iff p e).mp hh i (by omega)) hp
          rw [this] at H
          exact H
        rw [hp']
        show W (d + 1) 0 (nI (i + 1))
        by_cases he : i + 1 = e
        · rw [he]; exact hx d 0 hK
        · exact h0 d (i + 1) (by omega) hK
  exact ⟨e + 1, key e 0 (by omega) rfl⟩
/-- the first i at which p holds, or none: 'for (i ..) if (p i) return ..' -/
theorem qv_first (W : Nat → Int32 → Prop) (K0 K1 : Prop) (p : Nat → Bool) (e : Nat)
    (hx : ∀ n, K0 → W (n + 1) (nI e))
    (hs : ∀ n i, i < e → (p i = true → K1) → (p i = false → W n (nI (i + 1))) → W (n + 1) (nI i))
    (H0 : (∀ i, i < e → p i = false) → K0) (H1 : (∃ i, i < e ∧ p i = true) → K1) : ∃ n, W n 0 := by
  have key : ∀ d i, i + d = e → (∀ j, j < i → p j = false) → W (d + 1) (nI i) := by
    intro d
    induction d with
    | zero =>
      intro i hi h
      have e1 : i = e := by omega
      subst e1
      exact hx 0 (H0 h)
    | succ d ih =>
      intro i hi h
      refine hs (d + 1) i (by omega) (fun hp => H1 ⟨i, by omega, hp⟩) (fun hp => ih (i + 1) (by omega) ?_)
      intro j hj
      by_cases ej : j = i
      · rw [ej]; exact hp
      · exact h j (by omega)
  exact ⟨e + 1, key e 0 (by omega) (fun j hj => absurd hj (by omega))⟩
/-! arrays -/
def qv_tz (n : Nat) (a : Nat → Int32) : Prop := ∀ k, n ≤ k → a k = 0
theorem qv_tz_upd {n k : Nat} {a : Nat → Int32} {x : Int32} (h : qv_tz n a) (hk : k < n) : qv_tz n (upd a k x) := by
  intro j hj
  rw [pk_un (by omega)]
  exact h j hj
theorem qv_ext {n : Nat} {a b : Nat → Int32} (ha : qv_tz n a) (hb : qv_tz n b) (h : ∀ k, k < n → a k = b k) : a = b := by
  funext k
  by_cases hk : k < n
  · exact h k hk
  · rw [ha k (by omega), hb k (by omega)]
theorem qv_fill {f s : Nat → Int32} {i k : Nat} {x : Int32} (hk : k = i) (h : ∀ j, j < i → s j = f j) (hx : x = f i) : ∀ j, j < i + 1 → upd s k x j = f j := by
  intro j hj
  rw [hk]
  by_cases e : j = i
  · rw [e, pk_us, hx]
  · rw [pk_un e]
    exact h j (by omega)
/-! indices -/
theorem qv_ix (i k : Nat) : (5 : Int32) * nI i + nI k = nI (5 * i + k) := by
  show nI 5 * nI i + nI k = _
  rw [pk_mul, nI_add]
theorem qv_ixc {i k : Nat} (hi : i < 10) (hk : k < 10) : ((5 : Int32) * nI i + nI k).toNatClampNeg = 5 * i + k := by
  rw [qv_ix, nI_clamp (by omega)]
theorem qv_cl {n : Nat} (h : n < 65536) : (nI n).toNatClampNeg = n := nI_clamp (by omega)
/-! bits -/
def qv_b (p q : Int32) : Int32 := (p >>> (q &&& 31)) &&& 1
theorem qv_nor (a b : Nat) : nI a ||| nI b = nI (a ||| b) := by
  apply Int32.toBitVec_inj.1
  show BitVec.ofNat 32 a ||| BitVec.ofNat 32 b = BitVec.ofNat 32 (a ||| b)
  apply BitVec.eq_of_getLsbD_eq
  intro i hi
  simp [hi]
theorem qv_nand (a b : Nat) : nI a &&& nI b = nI (a &&& b) := by
  apply Int32.toBitVec_inj.1
  show BitVec.ofNat 32 a &&& BitVec.ofNat 32 b = BitVec.ofNat 32 (a &&& b)
  apply BitVec.eq_of_getLsbD_eq
  intro i hi
  simp [hi]
theorem qv_shc : ∀ n, n < 32 → ((nI n &&& 31).toBitVec.smod 32).toNat = n := by decide +kernel
theorem qv_b01 (p q : Int32) : qv_b p q = 0 ∨ qv_b p q = 1 := by
  obtain ⟨j, hj, e⟩ := pk_andE (p >>> (q &&& 31)) (m := 1) 1 (by decide)
  unfold qv_b
  rw [e]
  have h2 : j = 0 ∨ j = 1 := by omega
  rcases h2 with h | h
  · rw [h]; exact Or.inl rfl
  · rw [h]; exact Or.inr rfl
theorem qv_bN {s b : Nat} (hs : s < 2 ^ 31) (hb : b < 31) : qv_b (nI s) (nI b) = nI (s / 2 ^ b % 2) := by
  unfold qv_b
  rw [pk_shrN hs _ b (qv_shc b (by omega))]
  have h1 : s / 2 ^ b < 2 ^ 32 := Nat.lt_of_le_of_lt (Nat.div_le_self _ _) (by omega)
  exact pk_andN h1 1 (by decide)
theorem qv_bT {s b : Nat} (hs : s < 2 ^ 31) (hb : b < 31) : qv_b (nI s) (nI b) = qv_oI (s.testBit b) := by
  rw [qv_bN hs hb, Nat.testBit_eq_decide_div_mod_eq]
  have h2 : s / 2 ^ b % 2 = 0 ∨ s / 2 ^ b % 2 = 1 := by omega
  rcases h2 with h | h
  · rw [h]; rfl
  · rw [h]; rfl
theorem qv_b0 {s b : Nat} (hs : s < 2 ^ 31) (hb : b < 31) : qv_b (nI s) (nI b) = 0 ↔ s.testBit b = false := by
  rw [qv_bT hs hb]
  cases s.testBit b
  · exact ⟨fun _ => rfl, fun _ => rfl⟩
  · exact ⟨fun h => absurd h (by decide), fun h => absurd h (by decide)⟩
theorem qv_b1 {s b : Nat} (hs : s < 2 ^ 31) (hb : b < 31) : qv_b (nI s) (nI b) = 1 ↔ s.testBit b = true := by
  rw [qv_bT hs hb]
  cases s.testBit b
  · exact ⟨fun h => absurd h (by decide), fun h => absurd h (by decide)⟩
  · exact ⟨fun _ => rfl, fun _ => rfl⟩
theorem qv_sh1 : ∀ l, l < 31 → (1 : Int32) <<< (nI l &&& 31) = nI (2 ^ l) := by decide +kernel
theorem qv_byte : ∀ x, x < 128 → (nI x).toInt8.toInt32 = nI x := by decide +kernel
theorem qv_short0 : ∀ x, x < 1024 → (nI x).toInt16.toInt32 = nI x := by decide +kernel
theorem qv_vbyte {x : Nat} (h : x < 128) : vp_nar .byte (nI x) = nI x := by rw [vp_nar_byte, qv_byte x h]
/-! sums and masks -/
def qv_sum (f : Nat → Nat) : Nat → Nat
  | 0 => 0
  | n + 1 => qv_sum f n + f n
def qv_mk (p : Nat → Bool) : Nat → Nat
  | 0 => 0
  | n + 1 => qv_mk p n ||| (if p n then 2 ^ n else 0)
theorem qv_mk_tb (p : Nat → Bool) (n i : Nat) : (qv_mk p n).testBit i = (decide (i < n) && p i) := by
  induction n with
  | zero => show (0 : Nat).testBit i = _; simp
  | succ n ih =>
    show (qv_mk p n ||| (if p n then 2 ^ n else 0)).testBit i = _
    rw [Nat.testBit_or, ih]
    by_cases e : i = n
    · subst e
      cases hp : p i
      · simp
      · simp [Nat.testBit_two_pow_self]
    · have e1 : (if p n then 2 ^ n else 0 : Nat).testBit i = false := by
        cases p n
        · simp
        · simp [Nat.testBit_two_pow_of_ne (Ne.symm e)]
      rw [e1, Bool.or_false]
      have e2 : decide (i < n + 1) = decide (i < n) := by
        by_cases h : i < n
        · rw [decide_eq_true h, decide_eq_true (by omega)]
        · rw [decide_eq_false h, decide_eq_false (by omega)]
      rw [e2]
theorem qv_mk_lt (p : Nat → Bool) (n : Nat) : qv_mk p n < 2 ^ n := by
  apply Nat.lt_pow_two_of_testBit
  intro i hi
  rw [qv_mk_tb, decide_eq_false (by omega), Bool.false_and]
theorem qv_mk_congr {p q : Nat → Bool} {n : Nat} (h : ∀ i, i < n → p i = q i) : qv_mk p n = qv_mk q n := by
  apply Nat.eq_of_testBit_eq
  intro i
  rw [qv_mk_tb, qv_mk_tb]
  by_cases hi : i < n
  · rw [h i hi]
  · rw [decide_eq_false hi, Bool.false_and, Bool.false_and]
/-- the bits of some ballots: those at which p holds -/
def qv_bm (p : Nat → Bool) : List Nat → Nat
  | [] => 0
  | o :: L => (if p o then 1 else 0) + 2 * qv_bm p L
theorem qv_bm_tb (p : Nat → Bool) (L : List Nat) (i : Nat) : (qv_bm p L).testBit i = (L[i]?.map p).getD false := by
  induction L generalizing i with
  | nil => show (0 : Nat).testBit i = _; simp
  | cons o L ih =>
    show ((if p o then 1 else 0) + 2 * qv_bm p L).testBit i = _
    cases i with
    | zero =>
      rw [Nat.testBit_zero]
      cases hp : p o
      · simp [hp]
      · simp [hp, Nat.add_mod]
    | succ i =>
      rw [Nat.testBit_add_one]
      have e : ((if p o then 1 else 0) + 2 * qv_bm p L) / 2 = qv_bm p L := by
        cases p o
        · show (0 + 2 * qv_bm p L) / 2 = _
          omega
        · show (1 + 2 * qv_bm p L) / 2 = _
          omega
      rw [e, ih]
      simp
theorem qv_bm_lt (p : Nat → Bool) (L : List Nat) : qv_bm p L < 2 ^ L.length := by
  apply Nat.lt_pow_two_of_testBit
  intro i hi
  rw [qv_bm_tb, List.getElem?_eq_none (by omega)]
  rfl
theorem qv_bm_and (p q : Nat → Bool) (L : List Nat) : qv_bm p L &&& qv_bm q L = qv_bm (fun o => p o && q o) L := by
  apply Nat.eq_of_testBit_eq
  intro i
  rw [Nat.testBit_and, qv_bm_tb, qv_bm_tb, qv_bm_tb]
  cases L[i]? <;> rfl
theorem qv_bm_app (p : Nat → Bool) (L : List Nat) (o : Nat) : qv_bm p (L ++ [o]) = if p o then qv_bm p L ||| 2 ^ L.length else qv_bm p L := by
  have e0 : qv_bm p (L ++ [o]) = qv_bm p L + (if p o then 2 ^ L.length else 0) := by
    induction L with
    | nil => show (if p o then 1 else 0) + 2 * 0 = 0 + _; cases p o <;> rfl
    | cons a L ih =>
      show (if p a then 1 else 0) + 2 * qv_bm p (L ++ [o]) = (if p a then 1 else 0) + 2 * qv_bm p L + _
      rw [ih]
      cases p o
      · simp
      · simp only [if_true, List.length_cons, Nat.pow_succ]
        omega
  rw [e0]
  cases hp : p o
  · simp
  · simp only [if_true]
    have h := Nat.two_pow_add_eq_or_of_lt (qv_bm_lt p L) 1
    rw [Nat.mul_one] at h
    rw [Nat.add_comm, h, Nat.or_comm]
theorem qv_bm_true (L : List Nat) : qv_bm (fun _ => true) L = 2 ^ L.length - 1 := by
  induction L with
  | nil => rfl
  | cons a L ih =>
    show 1 + 2 * qv_bm (fun _ => true) L = 2 ^ (L.length + 1) - 1
    rw [ih, Nat.pow_succ]
    have := Nat.two_pow_pos L.length
    omega
theorem qv_bm_congr {p q : Nat → Bool} (h : ∀ o, p o = q o) (L : List Nat) : qv_bm p L = qv_bm q L := by
  rw [show p = q from funext h]
/-- how many bits -/
def qv_pc : Nat → Nat → Nat
  | 0, _ => 0
  | f + 1, x => x % 2 + qv_pc f (x / 2)
theorem qv_pc_0 (f : Nat) : qv_pc f 0 = 0 := by
  induction f with
  | zero => rfl
  | succ f ih => show 0 % 2 + qv_pc f (0 / 2) = 0; rw [show 0 / 2 = 0 from rfl, ih]
theorem qv_pc_bm (p : Nat → Bool) (L : List Nat) (f : Nat) (h : L.length ≤ f) : qv_pc f (qv_bm p L) = L.countP p := by
  induction L generalizing f with
  | nil => exact qv_pc_0 f
  | cons o L ih =>
    cases f with
    | zero => exact absurd h (by simp)
    | succ f =>
      have hl : L.length ≤ f := by simpa using h
      show ((if p o then 1 else 0) + 2 * qv_bm p L) % 2 + qv_pc f (((if p o then 1 else 0) + 2 * qv_bm p L) / 2) = _
      rw [List.countP_cons]
      cases p o
      · show (0 + 2 * qv_bm p L) % 2 + qv_pc f ((0 + 2 * qv_bm p L) / 2) = L.countP p + 0
        rw [show (0 + 2 * qv_bm p L) % 2 = 0 by omega, show (0 + 2 * qv_bm p L) / 2 = qv_bm p L by omega, ih f hl]
        omega
      · show (1 + 2 * qv_bm p L) % 2 + qv_pc f ((1 + 2 * qv_bm p L) / 2) = L.countP p + 1
        rw [show (1 + 2 * qv_bm p L) % 2 = 1 by omega, show (1 + 2 * qv_bm p L) / 2 = qv_bm p L by omega, ih f hl]
        omega
theorem qv_pc_le (f x : Nat) : qv_pc f x ≤ f := by
  induction f generalizing x with
  | zero => exact Nat.le_refl 0
  | succ f ih =>
    show x % 2 + qv_pc f (x / 2) ≤ f + 1
    have := ih (x / 2)
    omega
end
section
/-! orders of five candidates: digits and places -/
def qv_dg (o k : Nat) : Nat := o / 5 ^ (4 - k) % 5
def qv_pl (o c : Nat) : Nat := if o / 625 = c then 0 else if o / 125 % 5 = c then 1 else if o / 25 % 5 = c then 2 else if o / 5 % 5 = c then 3 else 4
def qv_seen (o : Nat) : Nat := ((((0 ||| 2 ^ (o % 5)) ||| 2 ^ (o / 5 % 5)) ||| 2 ^ (o / 5 / 5 % 5)) ||| 2 ^ (o / 5 / 5 / 5 % 5)) ||| 2 ^ (o / 5 / 5 / 5 / 5 % 5)
def qv_vo (o : Nat) : Bool := decide (o < 3125) && decide (qv_seen o = 31)
def qv_bp (o m : Nat) : Nat := if m.testBit (qv_dg o 0) then 0 else if m.testBit (qv_dg o 1) then 1 else if m.testBit (qv_dg o 2) then 2 else if m.testBit (qv_dg o 3) then 3 else if m.testBit (qv_dg o 4) then 4 else 5
def qv_lm (o m : Nat) : Nat := qv_it (fun c now => if m.testBit c = true ∧ qv_pl o c < now then qv_pl o c else now) 5 5
def qv_pf (a b : Nat) : Nat → Bool := fun o => decide (qv_pl o a < qv_pl o b)
theorem qv_split {P : Nat → Prop} (h : ∀ q, q < 25 → ∀ r, r < 125 → P (125 * q + r)) : ∀ o, o < 3125 → P o := by
  intro o ho
  have t := h (o / 125) (by omega) (o % 125) (by omega)
  rwa [show 125 * (o / 125) + o % 125 = o by omega] at t
theorem qv_short : ∀ x, x < 3125 → (nI x).toInt16.toInt32 = nI x := qv_split (by decide +kernel)
theorem qv_tab1 : ∀ q, q < 25 → ∀ r, r < 125 → qv_vo (125 * q + r) = true → (∀ c, c < 5 → qv_pl (125 * q + r) c < 5 ∧ qv_dg (125 * q + r) (qv_pl (125 * q + r) c) = c) := by decide +kernel
theorem qv_tab2 : ∀ q, q < 25 → ∀ r, r < 125 → qv_vo (125 * q + r) = true → (∀ k, k < 5 → qv_dg (125 * q + r) k < 5 ∧ qv_pl (125 * q + r) (qv_dg (125 * q + r) k) = k) := by decide +kernel
theorem qv_tab3 : ∀ q, q < 25 → ∀ r, r < 125 → qv_vo (125 * q + r) = true → (∀ c, c < 5 → qv_sum (fun b => if qv_pf c b (125 * q + r) then 1 else 0) 5 = 4 - qv_pl (125 * q + r) c) := by decide +kernel
theorem qv_tab4 : ∀ q, q < 25 → ∀ r, r < 125 → qv_vo (125 * q + r) = true → ∀ m, m < 32 → qv_bp (125 * q + r) m = qv_lm (125 * q + r) m := by decide +kernel
def qv_t5 (o : Nat) : Bool := qv_allb (fun m => qv_allb (fun c => !(m.testBit c) || decide (qv_bp o m ≤ qv_pl o c)) 5) 32
theorem qv_tab5 : ∀ q, q < 25 → ∀ r, r < 125 → qv_vo (125 * q + r) = true → qv_t5 (125 * q + r) = true := by decide +kernel
section
variable {o : Nat}
theorem qv_vo_lt (h : qv_vo o = true) : o < 3125 := by
  unfold qv_vo at h
  rw [Bool.and_eq_true] at h
  exact of_decide_eq_true h.1
theorem qv_pl_lt (h : qv_vo o = true) {c : Nat} (hc : c < 5) : qv_pl o c < 5 := (qv_split (P := fun o => qv_vo o = true → ∀ c, c < 5 → qv_pl o c < 5 ∧ qv_dg o (qv_pl o c) = c) qv_tab1 o (qv_vo_lt h) h c hc).1
theorem qv_dg_pl (h : qv_vo o = true) {c : Nat} (hc : c < 5) : qv_dg o (qv_pl o c) = c := (qv_split (P := fun o => qv_vo o = true → ∀ c, c < 5 → qv_pl o c < 5 ∧ qv_dg o (qv_pl o c) = c) qv_tab1 o (qv_vo_lt h) h c hc).2
theorem qv_dg_lt' (o k : Nat) : qv_dg o k < 5 := Nat.mod_lt _ (by omega)
theorem qv_pl_dg (h : qv_vo o = true) {k : Nat} (hk : k < 5) : qv_pl o (qv_dg o k) = k := (qv_split (P := fun o => qv_vo o = true → ∀ k, k < 5 → qv_dg o k < 5 ∧ qv_pl o (qv_dg o k) = k) qv_tab2 o (qv_vo_lt h) h k hk).2
theorem qv_pl_iff (h : qv_vo o = true) {c k : Nat} (hc : c < 5) (hk : k < 5) : qv_pl o c = k ↔ qv_dg o k = c := by
  constructor
  · intro e; rw [← e]; exact qv_dg_pl h hc
  · intro e; rw [← e]; exact qv_pl_dg h hk
theorem qv_pl_inj (h : qv_vo o = true) {a b : Nat} (ha : a < 5) (hb : b < 5) (e : qv_pl o a = qv_pl o b) : a = b := by
  rw [← qv_dg_pl h ha, e, qv_dg_pl h hb]
theorem qv_pts1 (h : qv_vo o = true) {c : Nat} (hc : c < 5) : qv_sum (fun b => if qv_pf c b o then 1 else 0) 5 = 4 - qv_pl o c :=
  qv_split (P := fun o => qv_vo o = true → ∀ c, c < 5 → qv_sum (fun b => if qv_pf c b o then 1 else 0) 5 = 4 - qv_pl o c) qv_tab3 o (qv_vo_lt h) h c hc
theorem qv_bp_lm (h : qv_vo o = true) {m : Nat} (hm : m < 32) : qv_bp o m = qv_lm o m :=
  qv_split (P := fun o => qv_vo o = true → ∀ m, m < 32 → qv_bp o m = qv_lm o m) qv_tab4 o (qv_vo_lt h) h m hm
theorem qv_bp_le (h : qv_vo o = true) {m : Nat} (hm : m < 32) {c : Nat} (hc : c < 5) (hb : m.testBit c = true) : qv_bp o m ≤ qv_pl o c := by
  have t := qv_split (P := fun o => qv_vo o = true → qv_t5 o = true) qv_tab5 o (qv_vo_lt h) h
  have t2 := (qv_allb_iff _ _).mp ((qv_allb_iff _ _).mp t m hm) c hc
  rw [hb] at t2
  exact of_decide_eq_true t2
theorem qv_bp_lt (o m : Nat) : qv_bp o m ≤ 5 := by
  unfold qv_bp
  repeat' split
  all_goals omega
theorem qv_dg4 : qv_dg o 4 = o % 5 := by show o / 5 ^ 0 % 5 = _; rw [Nat.pow_zero, Nat.div_one]
theorem qv_dg3 : qv_dg o 3 = o / 5 % 5 := rfl
theorem qv_dg2 : qv_dg o 2 = o / 5 / 5 % 5 := by show o / 25 % 5 = _; rw [Nat.div_div_eq_div_mul]
theorem qv_dg1 : qv_dg o 1 = o / 5 / 5 / 5 % 5 := by show o / 125 % 5 = _; rw [Nat.div_div_eq_div_mul, Nat.div_div_eq_div_mul]
theorem qv_dg0 : qv_dg o 0 = o / 5 / 5 / 5 / 5 % 5 := by show o / 625 % 5 = _; rw [Nat.div_div_eq_div_mul, Nat.div_div_eq_div_mul, Nat.div_div_eq_div_mul]
theorem qv_seen_lt (o : Nat) : qv_seen o < 32 := by
  have h : ∀ x : Nat, 2 ^ (x % 5) < 2 ^ 5 := fun x => Nat.pow_lt_pow_right (by omega) (Nat.mod_lt _ (by omega))
  exact Nat.or_lt_two_pow (n := 5) (Nat.or_lt_two_pow (Nat.or_lt_two_pow (Nat.or_lt_two_pow (Nat.or_lt_two_pow (by omega) (h _)) (h _)) (h _)) (h _)) (h _)
end
/-! how many ballots: K; margins, beaten -/
def qv_cp (L : List Nat) : (Nat → Bool) → Nat := fun p => L.countP p
def qv_C (K : (Nat → Bool) → Nat) (a b : Nat) : Nat := K (qv_pf a b)
def qv_M (K : (Nat → Bool) → Nat) : Nat → Int32 := fun k => if k < 25 then nI (qv_C K (k / 5) (k % 5)) - nI (qv_C K (k % 5) (k / 5)) else 0
def qv_Bn (K : (Nat → Bool) → Nat) (a n : Nat) : Nat := qv_mk (fun b => decide (qv_C K b a < qv_C K a b)) n
def qv_B (K : (Nat → Bool) → Nat) : Nat → Int32 := fun a => if a < 5 then nI (qv_Bn K a 5) else 0
theorem qv_cp_le (L : List Nat) (p : Nat → Bool) : qv_cp L p ≤ L.length := List.countP_le_length
theorem qv_cp_perm {L L' : List Nat} (h : List.Perm L L') : qv_cp L = qv_cp L' := funext (fun p => h.countP_eq p)
theorem qv_M_at (K : (Nat → Bool) → Nat) {a b : Nat} (ha : a < 5) (hb : b < 5) : qv_M K (5 * a + b) = nI (qv_C K a b) - nI (qv_C K b a) := by
  unfold qv_M
  rw [if_pos (by omega), show (5 * a + b) / 5 = a by omega, show (5 * a + b) % 5 = b by omega]
theorem qv_B_at (K : (Nat → Bool) → Nat) {a : Nat} (ha : a < 5) : qv_B K a = nI (qv_Bn K a 5) := if_pos ha
theorem qv_Bn_lt (K : (Nat → Bool) → Nat) (a : Nat) : qv_Bn K a 5 < 32 := qv_mk_lt _ 5
theorem qv_M_tz (K : (Nat → Bool) → Nat) : qv_tz 25 (qv_M K) := fun k hk => if_neg (by omega)
theorem qv_B_tz (K : (Nat → Bool) → Nat) : qv_tz 5 (qv_B K) := fun k hk => if_neg (by omega)
theorem qv_dif8 : ∀ x, x < 10 → ∀ y, y < 10 → (nI x - nI y).toInt8.toInt32 = nI x - nI y := by decide +kernel
theorem qv_dif0 : ∀ x, x < 10 → ∀ y, y < 10 → (nI x - nI y ≤ 0 ↔ x ≤ y) := by decide +kernel
/-- the state holds the ballots L -/
def qv_bal (L : List Nat) (c : Int32) (a1 a2 : Nat → Int32) : Prop :=
  L.length ≤ 9 ∧ (∀ o, o ∈ L → qv_vo o = true) ∧ c = nI L.length ∧ (∀ i, i < L.length → a1 i = nI (L.getD i 0)) ∧ (∀ i k, i < L.length → k < 5 → a2 (5 * i + k) = nI (qv_dg (L.getD i 0) k))
def qv_cnt (L : List Nat) (a3 a4 a5 : Nat → Int32) : Prop :=
  (∀ a b, a < 5 → b < 5 → a3 (5 * a + b) = nI (qv_bm (qv_pf a b) L)) ∧ a4 = qv_M (qv_cp L) ∧ a5 = qv_B (qv_cp L)
def qv_tzs (a4 a5 a7 a8 a9 a12 a13 : Nat → Int32) : Prop :=
  qv_tz 25 a4 ∧ qv_tz 5 a5 ∧ qv_tz 32 a7 ∧ qv_tz 25 a8 ∧ qv_tz 5 a9 ∧ qv_tz 1024 a12 ∧ qv_tz 1024 a13
def qv_ok (L : List Nat) (u : St2) : Prop := match u with
  | (c, cd, cc, a1, a2, a3, a4, a5, a6, a7, a8, a9, a10, a11, a12, a13, a14, a15, a16, a17) => qv_bal L c a1 a2 ∧ (¬ cd = 0 → qv_cnt L a3 a4 a5) ∧ qv_tzs a4 a5 a7 a8 a9 a12 a13
/-- .. and has counted them -/
def qv_okc (L : List Nat) (u : St2) : Prop := match u with
  | (c, cd, cc, a1, a2, a3, a4, a5, a6, a7, a8, a9, a10, a11, a12, a13, a14, a15, a16, a17) => qv_bal L c a1 a2 ∧ ¬ cd = 0 ∧ qv_cnt L a3 a4 a5 ∧ qv_tzs a4 a5 a7 a8 a9 a12 a13
theorem qv_getD_mem {L : List Nat} {i : Nat} (h : i < L.length) : L.getD i 0 ∈ L := by
  rw [List.getD_eq_getElem?_getD, List.getElem?_eq_getElem h]
  exact List.getElem_mem h
theorem qv_take1 {L : List Nat} {i : Nat} (h : i < L.length) : L.take (i + 1) = L.take i ++ [L.getD i 0] := by
  rw [List.take_succ_eq_append_getElem h, List.getD_eq_getElem?_getD, List.getElem?_eq_getElem h]
  rfl
theorem qv_getD_set {L : List Nat} {i j o : Nat} (hj : j < L.length) : (L.set i o).getD j 0 = if j = i then o else L.getD j 0 := by
  rw [List.getD_eq_getElem?_getD, List.getD_eq_getElem?_getD, List.getElem?_set]
  by_cases e : j = i
  · subst e; simp [hj]
  · simp [e, Ne.symm e]
theorem qv_getD_app {L : List Nat} {j o : Nat} : (L ++ [o]).getD j 0 = if j = L.length then o else L.getD j 0 := by
  rw [List.getD_eq_getElem?_getD, List.getD_eq_getElem?_getD, List.getElem?_append]
  by_cases e : j = L.length
  · subst e; simp
  · rw [if_neg e]
    by_cases h : j < L.length
    · rw [if_pos h]
    · rw [if_neg h, List.getElem?_eq_none (by simp; omega), List.getElem?_eq_none (by omega)]
theorem qv_getD_erase {L : List Nat} {i j : Nat} : (L.eraseIdx i).getD j 0 = if j < i then L.getD j 0 else L.getD (j + 1) 0 := by
  rw [List.getD_eq_getElem?_getD, List.getElem?_eraseIdx, List.getD_eq_getElem?_getD, List.getD_eq_getElem?_getD]
  split <;> rfl
theorem qv_perm {L : List Nat} {i o : Nat} (h : i < L.length) : List.Perm (L.set i o) (L.eraseIdx i ++ [o]) := by
  rw [List.set_eq_take_append_cons_drop, if_pos h, List.eraseIdx_eq_take_drop_succ, List.append_assoc]
  exact List.Perm.append_left _ (List.perm_append_comm (l₁ := [o]))
theorem qv_set_self {L : List Nat} {i : Nat} (h : i < L.length) : L.set i (L.getD i 0) = L := by
  apply List.ext_getElem?
  intro j
  rw [List.getElem?_set]
  by_cases e : i = j
  · subst e
    rw [if_pos rfl, if_pos h, List.getD_eq_getElem?_getD, List.getElem?_eq_getElem h]
    rfl
  · rw [if_neg e]
end
section
/-! small methods -/
section
variable {c cd cc : Int32} {a1 a2 a3 a4 a5 a6 a7 a8 a9 a10 a11 a12 a13 a14 a15 a16 a17 : Nat → Int32}
theorem qv_isIn {A B : Prop} {p q : Int32} (h0 : qv_b p q = 0 → A) (h1 : ¬ qv_b p q = 0 → B) : wpX_isIn (fun r => (r = 0 → A) ∧ (¬ r = 0 → B)) (c, cd, cc, a1, a2, a3, a4, a5, a6, a7, a8, a9, a10, a11, a12, a13, a14, a15, a16, a17) p q :=
  br_c (fun h => br_t rfl (h0 h)) (fun h => br_f (by decide) (h1 h))
theorem qv_isInN {A B : Prop} {s b : Nat} (hs : s < 2 ^ 31) (hb : b < 31) (h0 : s.testBit b = false → A) (h1 : s.testBit b = true → B) : wpX_isIn (fun r => (r = 0 → A) ∧ (¬ r = 0 → B)) (c, cd, cc, a1, a2, a3, a4, a5, a6, a7, a8, a9, a10, a11, a12, a13, a14, a15, a16, a17) (nI s) (nI b) :=
  qv_isIn (fun h => h0 ((qv_b0 hs hb).mp h)) (fun h => h1 (by
    cases hh : s.testBit b
    · exact absurd ((qv_b0 hs hb).mpr hh) h
    · rfl))
theorem qv_cand {post : Int32 → Prop} {a : Nat} (ha : a < 5) (H : post 1) : wpX_isCandidate post (c, cd, cc, a1, a2, a3, a4, a5, a6, a7, a8, a9, a10, a11, a12, a13, a14, a15, a16, a17) (nI a) :=
  br_f (nI_pos (by omega)) (br_f (nI_ge (b := 5) ha (by decide)) H)
theorem qv_ones_tab : ∀ x, x < 1024 → x ≠ 0 → nI x &&& (nI x - 1) = nI (x &&& (x - 1)) ∧ (x &&& (x - 1)) < x ∧ qv_pc 10 (x &&& (x - 1)) + 1 = qv_pc 10 x := by decide +kernel
theorem qv_ones4 {post : Int32 → Prop} : ∀ (m x k n : Nat), x ≤ m → x < 1024 → x < n → post (nI (k + qv_pc 10 x)) → wX_onesIn_4 post c cd cc a1 a2 a3 a4 a5 a6 a7 a8 a9 a10 a11 a12 a13 a14 a15 a16 a17 n (nI k) (nI x) := by
  intro m
  induction m with
  | zero =>
    intro x k n hm hx hn H
    have e : x = 0 := by omega
    subst e
    cases n with
    | zero => exact absurd hn (by omega)
    | succ n => exact br_t rfl H
  | succ m ih =>
    intro x k n hm hx hn H
    cases n with
    | zero => exact absurd hn (by omega)
    | succ n =>
      by_cases e : x = 0
      · subst e; exact br_t rfl H
      · obtain ⟨t1, t2, t3⟩ := qv_ones_tab x hx e
        refine br_f (nI_ne0 (by omega) (by omega)) (nm_r t1 (nm_r (nI_1 k) (ih _ (k + 1) n (by omega) (by omega) (by omega) ?_)))
        rw [show k + 1 + qv_pc 10 (x &&& (x - 1)) = k + qv_pc 10 x by omega]
        exact H
theorem qv_ones {post : Int32 → Prop} {x : Nat} (hx : x < 1024) (H : post (nI (qv_pc 10 x))) : wpX_onesIn post (c, cd, cc, a1, a2, a3, a4, a5, a6, a7, a8, a9, a10, a11, a12, a13, a14, a15, a16, a17) (nI x) :=
  ⟨x + 1, qv_ones4 x x 0 (x + 1) (Nat.le_refl _) hx (by omega) (by rw [Nat.zero_add]; exact H)⟩
theorem qv_onesB {post : Int32 → Prop} {p : Nat → Bool} {L : List Nat} (hL : L.length ≤ 9) (H : post (nI (qv_cp L p))) : wpX_onesIn post (c, cd, cc, a1, a2, a3, a4, a5, a6, a7, a8, a9, a10, a11, a12, a13, a14, a15, a16, a17) (nI (qv_bm p L)) := by
  have h := qv_bm_lt p L
  have h2 : 2 ^ L.length ≤ 2 ^ 9 := Nat.pow_le_pow_right (by omega) hL
  refine qv_ones (by omega) ?_
  rw [qv_pc_bm p L 10 (by omega)]
  exact H
theorem qv_isOrder {post : Int32 → Prop} {o : Nat} (ho : o < 3125) (H : post (qv_oI (qv_vo o))) : wpX_isOrder post (c, cd, cc, a1, a2, a3, a4, a5, a6, a7, a8, a9, a10, a11, a12, a13, a14, a15, a16, a17) (nI o) := by
  have step : ∀ n s r k, r < 3125 → k < 5 → wX_isOrder_20 post c cd cc a1 a2 a3 a4 a5 a6 a7 a8 a9 a10 a11 a12 a13 a14 a15 a16 a17 n (nI (s ||| 2 ^ (r % 5))) (nI (r / 5)) (nI (k + 1)) → wX_isOrder_20 post c cd cc a1 a2 a3 a4 a5 a6 a7 a8 a9 a10 a11 a12 a13 a14 a15 a16 a17 (n + 1) (nI s) (nI r) (nI k) := by
    intro n s r k hr hk h
    refine br_f (nI_ge (b := 5) hk (by decide)) ⟨by decide, nm_r ?_ ⟨by decide, nm_r ?_ (nm_r (nI_1 k) h)⟩⟩
    · rw [show nI r - nI r / 5 * 5 = nI (r % 5) from pk_rem (d := 5) (by omega) (by omega) (by omega), qv_sh1 _ (by omega), qv_nor]
    · exact pk_div (d := 5) (by omega) (by omega) (by omega)
  refine br_f (nI_pos (by omega)) (br_t (show nI o ≤ nI 3124 from nI_le (by omega) (by omega)) ⟨6, ?_⟩)
  refine step 5 0 o 0 ho (by omega) (step 4 _ _ 1 (by omega) (by omega) (step 3 _ _ 2 (by omega) (by omega) (step 2 _ _ 3 (by omega) (by omega) (step 1 _ _ 4 (by omega) (by omega) ?_))))
  have hs := qv_seen_lt o
  have e : ∀ b, qv_vo o = b → decide (qv_seen o = 31) = b := by
    intro b hb
    unfold qv_vo at hb
    rwa [decide_eq_true ho, Bool.true_and] at hb
  refine br_t (nI_le (a := 5) (Nat.le_refl _) (by omega)) ?_
  show (nI (qv_seen o) = 31 → post 1) ∧ (¬ nI (qv_seen o) = 31 → post 0)
  cases hv : qv_vo o
  · rw [hv] at H
    have h1 := of_decide_eq_false (e _ hv)
    exact br_f (fun z => h1 ((nI_eq (b := 31) (by omega) (by omega)).mp z)) H
  · rw [hv] at H
    have h1 := of_decide_eq_true (e _ hv)
    exact br_t (by rw [h1]; rfl) H
def qv_p5 (a : Nat → Int32) (i o : Nat) : Nat → Int32 := fun j => if 5 * i ≤ j ∧ j < 5 * i + 5 then nI (qv_dg o (j - 5 * i)) else a j
theorem qv_p5_eq (a : Nat → Int32) (i o : Nat) : upd (upd (upd (upd (upd a (5 * i + 4) (nI (o % 5))) (5 * i + 3) (nI (o / 5 % 5))) (5 * i + 2) (nI (o / 5 / 5 % 5))) (5 * i + 1) (nI (o / 5 / 5 / 5 % 5))) (5 * i + 0) (nI (o / 5 / 5 / 5 / 5 % 5)) = qv_p5 a i o := by
  funext j
  unfold qv_p5
  by_cases h : 5 * i ≤ j ∧ j < 5 * i + 5
  · rw [if_pos h]
    have h5 : j = 5 * i + 0 ∨ j = 5 * i + 1 ∨ j = 5 * i + 2 ∨ j = 5 * i + 3 ∨ j = 5 * i + 4 := by omega
    rcases h5 with e | e | e | e | e
    · rw [e, pk_us, show 5 * i + 0 - 5 * i = 0 by omega, qv_dg0]
    · rw [e, pk_un (by omega), pk_us, show 5 * i + 1 - 5 * i = 1 by omega, qv_dg1]
    · rw [e, pk_un (by omega), pk_un (by omega), pk_us, show 5 * i + 2 - 5 * i = 2 by omega, qv_dg2]
    · rw [e, pk_un (by omega), pk_un (by omega), pk_un (by omega), pk_us, show 5 * i + 3 - 5 * i = 3 by omega, qv_dg3]
    · rw [e, pk_un (by omega), pk_un (by omega), pk_un (by omega), pk_un (by omega), pk_us, show 5 * i + 4 - 5 * i = 4 by omega, qv_dg4]
  · rw [if_neg h, pk_un (by omega), pk_un (by omega), pk_un (by omega), pk_un (by omega), pk_un (by omega)]
theorem qv_put {post : St2 → Prop} {i o : Nat} (hi : i < 9) (ho : o < 3125) (H : post (c, 0, cc, upd a1 i (nI o), qv_p5 a2 i o, a3, a4, a5, a6, a7, a8, a9, a10, a11, a12, a13, a14, a15, a16, a17)) : wpX_put post (c, cd, cc, a1, a2, a3, a4, a5, a6, a7, a8, a9, a10, a11, a12, a13, a14, a15, a16, a17) (nI i) (nI o) := by
  have step : ∀ (n r k : Nat) (y : Int32) (b1 b2 : Nat → Int32), r < 3125 → k < 5 → nI k + (-1) = y →
      wX_put_13 post (nI i) c cd cc n (nI (r / 5)) y b1 (upd b2 (5 * i + k) (nI (r % 5))) a3 a4 a5 a6 a7 a8 a9 a10 a11 a12 a13 a14 a15 a16 a17 → wX_put_13 post (nI i) c cd cc (n + 1) (nI r) (nI k) b1 b2 a3 a4 a5 a6 a7 a8 a9 a10 a11 a12 a13 a14 a15 a16 a17 := by
    intro n r k y b1 b2 hr hk hy h
    refine br_f (nI_pos (by omega)) ⟨by decide, pk_in (5 * i + k) 45 (by omega) (qv_ix i k), nm_r ?_ ⟨by decide, nm_r ?_ (nm_r hy h)⟩⟩
    · rw [qv_ixc (by omega) (by omega), show nI r - nI r / 5 * 5 = nI (r % 5) from pk_rem (d := 5) (by omega) (by omega) (by omega), qv_byte _ (by omega)]
    · exact pk_div (d := 5) (by omega) (by omega) (by omega)
  refine ⟨pk_in i 9 hi, nm_r (e' := upd a1 i (nI o)) (by rw [nI_clamp (by omega), qv_short o ho]) ⟨6, ?_⟩⟩
  refine step 5 o 4 (nI 3) _ _ ho (by omega) (pk_m1 3) (step 4 _ 3 (nI 2) _ _ (by omega) (by omega) (pk_m1 2) (step 3 _ 2 (nI 1) _ _ (by omega) (by omega) (pk_m1 1) (step 2 _ 1 (nI 0) _ _ (by omega) (by omega) (pk_m1 0) (step 1 _ 0 (-1) _ _ (by omega) (by omega) (by decide) ?_))))
  refine br_t (by decide) ?_
  rw [qv_p5_eq]
  exact H
theorem qv_p5_in (a : Nat → Int32) {i o k : Nat} (hk : k < 5) : qv_p5 a i o (5 * i + k) = nI (qv_dg o k) := by
  unfold qv_p5
  rw [if_pos (by omega), show 5 * i + k - 5 * i = k by omega]
theorem qv_p5_out (a : Nat → Int32) {i j o k : Nat} (hk : k < 5) (h : j ≠ i) : qv_p5 a i o (5 * j + k) = a (5 * j + k) := by
  unfold qv_p5
  rw [if_neg (by omega)]
theorem qv_bal_set {L : List Nat} {i o : Nat} (hi : i < L.length) (ho : qv_vo o = true) (h : qv_bal L c a1 a2) : qv_bal (L.set i o) c (upd a1 i (nI o)) (qv_p5 a2 i o) := by
  obtain ⟨h1, h2, h3, h4, h5⟩ := h
  refine ⟨by rw [List.length_set]; exact h1, ?_, by rw [List.length_set]; exact h3, ?_, ?_⟩
  · intro x hx
    rcases List.mem_or_eq_of_mem_set hx with hx | hx
    · exact h2 x hx
    · rw [hx]; exact ho
  · intro j hj
    rw [List.length_set] at hj
    rw [qv_getD_set hj]
    by_cases e : j = i
    · rw [e, pk_us, if_pos rfl]
    · rw [pk_un e, if_neg e]; exact h4 j hj
  · intro j k hj hk
    rw [List.length_set] at hj
    rw [qv_getD_set hj]
    by_cases e : j = i
    · rw [e, qv_p5_in a2 hk, if_pos rfl]
    · rw [qv_p5_out a2 hk e, if_neg e]; exact h5 j k hj hk
theorem qv_bal_app {L : List Nat} {o : Nat} (hl : L.length < 9) (ho : qv_vo o = true) (h : qv_bal L c a1 a2) : qv_bal (L ++ [o]) (nI (L.length + 1)) (upd a1 L.length (nI o)) (qv_p5 a2 L.length o) := by
  obtain ⟨h1, h2, h3, h4, h5⟩ := h
  have hlen : (L ++ [o]).length = L.length + 1 := by simp
  refine ⟨by omega, ?_, by rw [hlen], ?_, ?_⟩
  · intro x hx
    rw [List.mem_append, List.mem_singleton] at hx
    rcases hx with hx | hx
    · exact h2 x hx
    · rw [hx]; exact ho
  · intro j hj
    rw [qv_getD_app]
    by_cases e : j = L.length
    · rw [e, pk_us, if_pos rfl]
    · rw [pk_un e, if_neg e]; exact h4 j (by omega)
  · intro j k hj hk
    rw [qv_getD_app]
    by_cases e : j = L.length
    · rw [e, qv_p5_in a2 hk, if_pos rfl]
    · rw [qv_p5_out a2 hk e, if_neg e]; exact h5 j k (by omega) hk
theorem qv_ballot {post : Int32 → St2 → Prop} {L : List Nat} {o : Nat} (h : qv_ok L (c, cd, cc, a1, a2, a3, a4, a5, a6, a7, a8, a9, a10, a11, a12, a13, a14, a15, a16, a17)) (hl : L.length < 9) (ho : qv_vo o = true)
    (H : ∀ u, qv_ok (L ++ [o]) u → post (nI (L.length + 1)) u) : wpX_ballot post (c, cd, cc, a1, a2, a3, a4, a5, a6, a7, a8, a9, a10, a11, a12, a13, a14, a15, a16, a17) (nI o) := by
  obtain ⟨hb, hc, ht⟩ := h
  have e := hb.2.2.1
  subst e
  refine br_t (nI_lt (b := 9) hl (by omega)) (qv_isOrder (qv_vo_lt ho) ?_)
  rw [ho]
  refine br_f (by decide) (qv_put hl (qv_vo_lt ho) (nm_r (nI_1 _) (H _ ⟨qv_bal_app hl ho hb, fun z => absurd rfl z, ht⟩)))
theorem qv_ballot_full {post : Int32 → St2 → Prop} {L : List Nat} {p : Int32} (h : qv_ok L (c, cd, cc, a1, a2, a3, a4, a5, a6, a7, a8, a9, a10, a11, a12, a13, a14, a15, a16, a17)) (hl : L.length = 9)
    (H : post (-1001) (c, cd, cc, a1, a2, a3, a4, a5, a6, a7, a8, a9, a10, a11, a12, a13, a14, a15, a16, a17)) : wpX_ballot post (c, cd, cc, a1, a2, a3, a4, a5, a6, a7, a8, a9, a10, a11, a12, a13, a14, a15, a16, a17) p := by
  obtain ⟨hb, hc, ht⟩ := h
  have e := hb.2.2.1
  rw [hl] at e
  subst e
  exact br_f (by decide) H
theorem qv_order {post : Int32 → Prop} {L : List Nat} {i : Nat} (h : qv_ok L (c, cd, cc, a1, a2, a3, a4, a5, a6, a7, a8, a9, a10, a11, a12, a13, a14, a15, a16, a17)) (hi : i < L.length) (H : post (nI (L.getD i 0))) : wpX_order post (c, cd, cc, a1, a2, a3, a4, a5, a6, a7, a8, a9, a10, a11, a12, a13, a14, a15, a16, a17) (nI i) := by
  obtain ⟨hb, hc, ht⟩ := h
  have hl := hb.1
  have e := hb.2.2.1
  subst e
  refine br_f (nI_pos (by omega)) (br_t (nI_lt hi (by omega)) ⟨pk_in i 9 (by omega), ?_⟩)
  rw [nI_clamp (by omega), hb.2.2.2.1 i hi]
  exact H
theorem qv_order_bad {post : Int32 → Prop} {L : List Nat} (h : qv_ok L (c, cd, cc, a1, a2, a3, a4, a5, a6, a7, a8, a9, a10, a11, a12, a13, a14, a15, a16, a17)) (H : post (-1000)) : wpX_order post (c, cd, cc, a1, a2, a3, a4, a5, a6, a7, a8, a9, a10, a11, a12, a13, a14, a15, a16, a17) (nI L.length) := by
  obtain ⟨hb, hc, ht⟩ := h
  have hl := hb.1
  have e := hb.2.2.1
  subst e
  exact br_f (nI_pos (by omega)) (br_f (nI_nlt (Nat.le_refl _) (by omega)) H)
theorem qv_drop_bad {post : Int32 → St2 → Prop} {L : List Nat} (h : qv_ok L (c, cd, cc, a1, a2, a3, a4, a5, a6, a7, a8, a9, a10, a11, a12, a13, a14, a15, a16, a17)) (H : post (-1000) (c, cd, cc, a1, a2, a3, a4, a5, a6, a7, a8, a9, a10, a11, a12, a13, a14, a15, a16, a17)) : wpX_drop post (c, cd, cc, a1, a2, a3, a4, a5, a6, a7, a8, a9, a10, a11, a12, a13, a14, a15, a16, a17) (nI L.length) := by
  obtain ⟨hb, hc, ht⟩ := h
  have hl := hb.1
  have e := hb.2.2.1
  subst e
  exact br_f (nI_pos (by omega)) (br_f (nI_nlt (Nat.le_refl _) (by omega)) H)
/-- the ballots ahead of k are those of E, from k + 1 on those of L -/
def qv_mid (L : List Nat) (i k : Nat) (a1 a2 : Nat → Int32) : Prop :=
  (∀ j, j < k → a1 j = nI ((L.eraseIdx i).getD j 0) ∧ ∀ l, l < 5 → a2 (5 * j + l) = nI (qv_dg ((L.eraseIdx i).getD j 0) l)) ∧
  (∀ j, k < j → j < L.length → a1 j = nI (L.getD j 0) ∧ ∀ l, l < 5 → a2 (5 * j + l) = nI (qv_dg (L.getD j 0) l))
theorem qv_drop {post : Int32 → St2 → Prop} {L : List Nat} {i : Nat} (h : qv_ok L (c, cd, cc, a1, a2, a3, a4, a5, a6, a7, a8, a9, a10, a11, a12, a13, a14, a15, a16, a17)) (hi : i < L.length)
    (H : ∀ u, qv_ok (L.eraseIdx i) u → post (nI (L.length - 1)) u) : wpX_drop post (c, cd, cc, a1, a2, a3, a4, a5, a6, a7, a8, a9, a10, a11, a12, a13, a14, a15, a16, a17) (nI i) := by
  obtain ⟨hb, hc, ht⟩ := h
  obtain ⟨h1, h2, h3, h4, h5⟩ := hb
  subst h3
  have hlen : (L.eraseIdx i).length = L.length - 1 := List.length_eraseIdx_of_lt hi
  have e1 : nI L.length - 1 = nI (L.length - 1) := by
    obtain ⟨m, hm⟩ : ∃ m, L.length = m + 1 := ⟨L.length - 1, by omega⟩
    rw [hm]; exact nI_pred m
  refine br_f (nI_pos (by omega)) (br_t (nI_lt hi (by omega)) (nm_r e1 ?_))
  refine qv_up (σ := Int32 × (Nat → Int32) × (Nat → Int32)) (fun n x s => wX_drop_28 post n x (nI (L.length - 1)) s.1 cc s.2.1 s.2.2 a3 a4 a5 a6 a7 a8 a9 a10 a11 a12 a13 a14 a15 a16 a17) (fun k s => qv_mid L i k s.2.1 s.2.2) i (L.length - 1) (cd, a1, a2) (by omega) ?_ ?_ ?_
  · refine ⟨fun j hj => ?_, fun j hj hl => ⟨h4 j hl, fun l hl' => h5 j l hl hl'⟩⟩
    rw [qv_getD_erase, if_pos hj]
    exact ⟨h4 j (by omega), fun l hl' => h5 j l (by omega) hl'⟩
  · intro n k s hk0 hk hm hw
    refine br_f (nI_ge hk (by omega)) ⟨pk_in (k + 1) 9 (by omega) (nI_1 k), ?_⟩
    have e2 : (nI k + 1).toNatClampNeg = k + 1 := by rw [nI_1, nI_clamp (by omega)]
    rw [e2, (hm.2 (k + 1) (by omega) (by omega)).1]
    have hv : qv_vo (L.getD (k + 1) 0) = true := h2 _ (qv_getD_mem (by omega))
    refine qv_put (by omega) (qv_vo_lt hv) (nm_r (nI_1 k) (hw (0, upd s.2.1 k (nI (L.getD (k + 1) 0)), qv_p5 s.2.2 k (L.getD (k + 1) 0)) ⟨?_, ?_⟩))
    · intro j hj
      by_cases ej : j = k
      · subst ej
        rw [qv_getD_erase, if_neg (by omega)]
        exact ⟨pk_us, fun l hl => qv_p5_in _ hl⟩
      · obtain ⟨t1, t2⟩ := hm.1 j (by omega)
        exact ⟨by rw [← t1]; exact pk_un ej, fun l hl => by rw [← t2 l hl]; exact qv_p5_out _ hl ej⟩
    · intro j hj hl'
      obtain ⟨t1, t2⟩ := hm.2 j (by omega) hl'
      exact ⟨by rw [← t1]; exact pk_un (by omega), fun l hl => by rw [← t2 l hl]; exact qv_p5_out _ hl (by omega)⟩
  · intro n s hm
    refine br_t (nI_le (Nat.le_refl _) (by omega)) (H _ ⟨⟨by omega, ?_, by rw [hlen], ?_, ?_⟩, fun z => absurd rfl z, ht⟩)
    · intro o ho
      exact h2 o (List.mem_of_mem_eraseIdx ho)
    · intro j hj
      exact (hm.1 j (by omega)).1
    · intro j l hj hl
      exact (hm.1 j (by omega)).2 l hl
/-- the five low bits of a set -/
def qv_ms (x : Int32) : Nat := qv_mk (fun c => decide (qv_b x (nI c) = 1)) 5
theorem qv_ms_lt (x : Int32) : qv_ms x < 32 := qv_mk_lt _ 5
theorem qv_ms_tb (x : Int32) {b : Nat} (hb : b < 5) : (qv_ms x).testBit b = decide (qv_b x (nI b) = 1) := by
  unfold qv_ms
  rw [qv_mk_tb, decide_eq_true hb, Bool.true_and]
theorem qv_bestPlace {post : Int32 → Prop} {o : Nat} {x : Int32} (ho : o < 3125) (H : post (nI (qv_bp o (qv_ms x)))) : wpX_bestPlace post (c, cd, cc, a1, a2, a3, a4, a5, a6, a7, a8, a9, a10, a11, a12, a13, a14, a15, a16, a17) (nI o) x := by
  have step : ∀ (n r k best : Nat) (y : Int32), r < 3125 → k < 5 → nI k + (-1) = y →
      wX_bestPlace_8 post x c cd cc a1 a2 a3 a4 a5 a6 a7 a8 a9 a10 a11 a12 a13 a14 a15 a16 a17 n (nI (if (qv_ms x).testBit (r % 5) then k else best)) (nI (r / 5)) y → wX_bestPlace_8 post x c cd cc a1 a2 a3 a4 a5 a6 a7 a8 a9 a10 a11 a12 a13 a14 a15 a16 a17 (n + 1) (nI best) (nI r) (nI k) := by
    intro n r k best y hr hk hy h
    have e1 : nI r / 5 = nI (r / 5) := pk_div (d := 5) (by omega) (by omega) (by omega)
    refine br_f (nI_pos (by omega)) ⟨by decide, ?_⟩
    rw [show nI r - nI r / 5 * 5 = nI (r % 5) from pk_rem (d := 5) (by omega) (by omega) (by omega)]
    have hb : r % 5 < 5 := Nat.mod_lt _ (by omega)
    refine qv_isIn (fun z => ⟨by decide, nm_r e1 (nm_r hy ?_)⟩) (fun z => ⟨by decide, nm_r e1 (nm_r hy ?_)⟩)
    · rw [qv_ms_tb x hb, z] at h
      exact h
    · have z1 : qv_b x (nI (r % 5)) = 1 := (qv_b01 x _).resolve_left z
      rw [qv_ms_tb x hb, z1] at h
      exact h
  refine ⟨6, step 5 o 4 5 (nI 3) ho (by omega) (pk_m1 3) (step 4 _ 3 _ (nI 2) (by omega) (by omega) (pk_m1 2) (step 3 _ 2 _ (nI 1) (by omega) (by omega) (pk_m1 1) (step 2 _ 1 _ (nI 0) (by omega) (by omega) (pk_m1 0) (step 1 _ 0 _ (-1) (by omega) (by omega) (by decide) ?_))))⟩
  refine br_t (by decide) ?_
  unfold qv_bp at H
  rw [qv_dg0, qv_dg1, qv_dg2, qv_dg3, qv_dg4] at H
  exact H
end
end
section
/-! counting -/
section
variable {c cd cc : Int32} {a1 a2 a3 a4 a5 a6 a7 a8 a9 a10 a11 a12 a13 a14 a15 a16 a17 : Nat → Int32}
theorem qv_pair {a b k l o : Nat} (ho : qv_vo o = true) (ha : a < 5) (hb : b < 5) (hk : k < 5) (hl : l < 5) : 5 * a + b = 5 * qv_dg o k + qv_dg o l ↔ qv_pl o a = k ∧ qv_pl o b = l := by
  rw [qv_pl_iff ho ha hk, qv_pl_iff ho hb hl]
  have h1 := qv_dg_lt' o k
  have h2 := qv_dg_lt' o l
  omega
theorem qv_countBallot {post : St2 → Prop} {i o : Nat} {x : Nat → Nat → Nat} (hi : i < 9) (ho : qv_vo o = true) (hx : ∀ a b, a < 5 → b < 5 → x a b < 2 ^ i)
    (h2 : ∀ k, k < 5 → a2 (5 * i + k) = nI (qv_dg o k)) (h3 : ∀ a b, a < 5 → b < 5 → a3 (5 * a + b) = nI (x a b))
    (H : ∀ a3', (∀ a b, a < 5 → b < 5 → a3' (5 * a + b) = nI (if qv_pf a b o then x a b ||| 2 ^ i else x a b)) → post (c, cd, cc, a1, a2, a3', a4, a5, a6, a7, a8, a9, a10, a11, a12, a13, a14, a15, a16, a17)) : wpX_countBallot post (c, cd, cc, a1, a2, a3, a4, a5, a6, a7, a8, a9, a10, a11, a12, a13, a14, a15, a16, a17) (nI i) := by
  have hp : 2 ^ i ≤ 2 ^ 8 := Nat.pow_le_pow_right (by omega) (by omega)
  refine qv_up (fun n z s => wX_countBallot_2 post (nI i) c cd cc n z a1 a2 s a4 a5 a6 a7 a8 a9 a10 a11 a12 a13 a14 a15 a16 a17) (fun k s => ∀ a b, a < 5 → b < 5 → s (5 * a + b) = nI (if qv_pl o a < qv_pl o b ∧ qv_pl o a < k then x a b ||| 2 ^ i else x a b)) 0 5 a3 (by omega) ?_ ?_ ?_
  · intro a b ha hb
    rw [if_neg (by omega)]
    exact h3 a b ha hb
  · intro n k s _ hk hI hw
    refine br_f (nI_ge (b := 5) hk (by decide)) (nm_r (nI_1 k) ?_)
    refine qv_up (fun n' z s => wX_countBallot_11 post (wX_countBallot_2 post (nI i) c cd cc n) (nI i) (nI k) c cd cc n' z a1 a2 s a4 a5 a6 a7 a8 a9 a10 a11 a12 a13 a14 a15 a16 a17) (fun l s => ∀ a b, a < 5 → b < 5 → s (5 * a + b) = nI (if qv_pl o a < qv_pl o b ∧ (qv_pl o a < k ∨ (qv_pl o a = k ∧ qv_pl o b < l)) then x a b ||| 2 ^ i else x a b)) (k + 1) 5 s (by omega) ?_ ?_ ?_
    · intro a b ha hb
      rw [hI a b ha hb]
      congr 1
      by_cases t : qv_pl o a < qv_pl o b ∧ qv_pl o a < k
      · rw [if_pos t, if_pos (by omega)]
      · rw [if_neg t, if_neg (by omega)]
    · intro n' l s' hl0 hl hI' hw'
      have d1 := qv_dg_lt' o k
      have d2 := qv_dg_lt' o l
      refine br_f (nI_ge (b := 5) hl (by decide)) ?_
      rw [qv_ixc (i := i) (k := k) (by omega) (by omega), qv_ixc (i := i) (k := l) (by omega) (by omega), h2 k hk, h2 l hl, qv_ixc (i := qv_dg o k) (k := qv_dg o l) (by omega) (by omega)]
      refine ⟨pk_in (5 * i + k) 45 (by omega) (qv_ix i k), pk_in (5 * i + l) 45 (by omega) (qv_ix i l), pk_in (5 * qv_dg o k + qv_dg o l) 25 (by omega) (qv_ix _ _), pk_in (5 * qv_dg o k + qv_dg o l) 25 (by omega) (qv_ix _ _), nm_e (nm_r (nI_1 l) (hw' _ ?_))⟩
      intro a b ha hb
      by_cases e : 5 * a + b = 5 * qv_dg o k + qv_dg o l
      · rw [e, pk_us, ← e, hI' a b ha hb, qv_sh1 i (by omega)]
        obtain ⟨e1, e2⟩ := (qv_pair ho ha hb hk hl).mp e
        rw [if_neg (by omega), if_pos (by omega), qv_nor]
        have t : x a b ||| 2 ^ i < 2 ^ 9 := Nat.or_lt_two_pow (Nat.lt_of_lt_of_le (hx a b ha hb) (by omega)) (by omega)
        exact qv_short0 _ (by omega)
      · rw [pk_un e, hI' a b ha hb]
        have e' : ¬ (qv_pl o a = k ∧ qv_pl o b = l) := fun z => e ((qv_pair ho ha hb hk hl).mpr z)
        congr 1
        by_cases t : qv_pl o a < qv_pl o b ∧ (qv_pl o a < k ∨ (qv_pl o a = k ∧ qv_pl o b < l))
        · rw [if_pos t, if_pos (by omega)]
        · rw [if_neg t, if_neg (by omega)]
    · intro n' s' hI'
      refine br_t (nI_le (a := 5) (Nat.le_refl _) (by omega)) (nm_r (nI_1 k) (hw s' ?_))
      intro a b ha hb
      rw [hI' a b ha hb]
      have hl := qv_pl_lt ho hb
      congr 1
      by_cases t : qv_pl o a < qv_pl o b ∧ qv_pl o a < k + 1
      · rw [if_pos t, if_pos (by omega)]
      · rw [if_neg t, if_neg (by omega)]
  · intro n s hI
    refine br_t (nI_le (a := 5) (Nat.le_refl _) (by omega)) (H s ?_)
    intro a b ha hb
    rw [hI a b ha hb]
    have hl := qv_pl_lt ho ha
    congr 1
    unfold qv_pf
    by_cases t : qv_pl o a < qv_pl o b
    · rw [if_pos (by omega), decide_eq_true t, if_pos rfl]
    · rw [if_neg (by omega), decide_eq_false t]
      rfl
theorem qv_Bn_s0 {K : (Nat → Bool) → Nat} {a b : Nat} (h : ¬ qv_C K b a < qv_C K a b) : qv_Bn K a (b + 1) = qv_Bn K a b := by
  show qv_Bn K a b ||| (if decide (qv_C K b a < qv_C K a b) = true then 2 ^ b else 0) = _
  rw [decide_eq_false h]
  exact Nat.or_zero _
theorem qv_Bn_s1 {K : (Nat → Bool) → Nat} {a b : Nat} (h : qv_C K b a < qv_C K a b) : qv_Bn K a (b + 1) = qv_Bn K a b ||| 2 ^ b := by
  show qv_Bn K a b ||| (if decide (qv_C K b a < qv_C K a b) = true then 2 ^ b else 0) = _
  rw [decide_eq_true h]
  rfl
theorem qv_count71 {post : St2 → Prop} {J : Int32 → (Nat → Int32) → (Nat → Int32) → (Nat → Int32) → (Nat → Int32) → (Nat → Int32) → (Nat → Int32) → (Nat → Int32) → (Nat → Int32) → (Nat → Int32) → (Nat → Int32) → (Nat → Int32) → (Nat → Int32) → (Nat → Int32) → (Nat → Int32) → (Nat → Int32) → (Nat → Int32) → (Nat → Int32) → Prop}
    {L : List Nat} {a : Nat} (hL : L.length ≤ 9) (ha : a < 5) (h3 : ∀ a b, a < 5 → b < 5 → a3 (5 * a + b) = nI (qv_bm (qv_pf a b) L))
    (h4 : ∀ k, k < 5 * a → a4 k = qv_M (qv_cp L) k) (h5 : ∀ k, k < a → a5 k = qv_B (qv_cp L) k) (h50 : a5 a = 0) (t4 : qv_tz 25 a4) (t5 : qv_tz 5 a5)
    (H : ∀ a4' a5', (∀ k, k < 5 * (a + 1) → a4' k = qv_M (qv_cp L) k) → (∀ k, k < a + 1 → a5' k = qv_B (qv_cp L) k) → qv_tz 25 a4' → qv_tz 5 a5' → J (nI (a + 1)) a1 a2 a3 a4' a5' a6 a7 a8 a9 a10 a11 a12 a13 a14 a15 a16 a17) :
    ∃ n, wX_countAll_71 post J (nI a) c cd cc n 0 a1 a2 a3 a4 a5 a6 a7 a8 a9 a10 a11 a12 a13 a14 a15 a16 a17 := by
  have hK : ∀ p, qv_cp L p < 10 := fun p => Nat.lt_of_le_of_lt (qv_cp_le L p) (by omega)
  refine qv_up (σ := (Nat → Int32) × (Nat → Int32)) (fun n z s => wX_countAll_71 post J (nI a) c cd cc n z a1 a2 a3 s.1 s.2 a6 a7 a8 a9 a10 a11 a12 a13 a14 a15 a16 a17) (fun b s => (∀ k, k < 5 * a + b → s.1 k = qv_M (qv_cp L) k) ∧ (∀ k, k < a → s.2 k = qv_B (qv_cp L) k) ∧ s.2 a = nI (qv_Bn (qv_cp L) a b) ∧ qv_tz 25 s.1 ∧ qv_tz 5 s.2) 0 5 (a4, a5) (by omega) ⟨h4, h5, h50, t4, t5⟩ ?_ ?_
  · intro n b s _ hb ⟨i1, i2, i3, i4, i5⟩ hw
    refine br_f (nI_ge (b := 5) hb (by decide)) ⟨pk_in (5 * a + b) 25 (by omega) (qv_ix a b), ?_⟩
    rw [qv_ixc (i := a) (k := b) (by omega) (by omega), h3 a b ha hb]
    refine qv_onesB hL ⟨pk_in (5 * b + a) 25 (by omega) (qv_ix b a), ?_⟩
    rw [qv_ixc (i := b) (k := a) (by omega) (by omega), h3 b a hb ha]
    refine qv_onesB hL (nm_e ⟨pk_in (5 * a + b) 25 (by omega) (qv_ix a b), nm_r (e' := upd s.1 (5 * a + b) (nI (qv_C (qv_cp L) a b) - nI (qv_C (qv_cp L) b a))) (congrArg (upd s.1 (5 * a + b)) (qv_dif8 _ (hK _) _ (hK _))) ?_⟩)
    have F4 : ∀ k, k < 5 * a + (b + 1) → upd s.1 (5 * a + b) (nI (qv_C (qv_cp L) a b) - nI (qv_C (qv_cp L) b a)) k = qv_M (qv_cp L) k := qv_fill rfl i1 (qv_M_at _ ha hb).symm
    refine ek_if (qv_dif0 _ (hK _) _ (hK _)) (fun z => nm_r (nI_1 b) (hw (_, _) ⟨F4, i2, ?_, qv_tz_upd i4 (by omega), i5⟩)) (fun z => ⟨pk_in a 5 ha, pk_in a 5 ha, nm_r (e' := upd s.2 a (nI (qv_Bn (qv_cp L) a (b + 1)))) ?_ (nm_r (nI_1 b) (hw (_, _) ⟨F4, ?_, pk_us, qv_tz_upd i4 (by omega), qv_tz_upd i5 ha⟩))⟩)
    · rw [qv_Bn_s0 (K := qv_cp L) (a := a) (b := b) (Nat.not_lt.mpr z)]
      exact i3
    · have z' : qv_C (qv_cp L) b a < qv_C (qv_cp L) a b := Nat.lt_of_not_le z
      rw [nI_clamp (show a < 2 ^ 31 by omega), i3, qv_sh1 b (by omega), qv_nor, ← qv_Bn_s1 z']
      have hl : qv_Bn (qv_cp L) a (b + 1) < 2 ^ (b + 1) := qv_mk_lt _ (b + 1)
      have hl2 : 2 ^ (b + 1) ≤ 2 ^ 5 := Nat.pow_le_pow_right (by omega) (by omega)
      rw [qv_byte _ (by omega)]
    · intro k hk
      show upd s.2 a _ k = _
      rw [pk_un (by omega)]
      exact i2 k hk
  · intro n s ⟨i1, i2, i3, i4, i5⟩
    refine br_t (nI_le (a := 5) (Nat.le_refl _) (by omega)) (nm_r (nI_1 a) (H s.1 s.2 (fun k hk => i1 k (by omega)) ?_ i4 i5))
    intro k hk
    by_cases e : k = a
    · rw [e, i3, qv_B_at _ ha]
    · exact i2 k (by omega)
theorem qv_count57 {post : St2 → Prop} {L : List Nat} (hb : qv_bal L c a1 a2) (hcd : ¬ cd = 0) (h3 : ∀ a b, a < 5 → b < 5 → a3 (5 * a + b) = nI (qv_bm (qv_pf a b) L)) (ht : qv_tzs a4 a5 a7 a8 a9 a12 a13)
    (H : ∀ u, qv_okc L u → post u) : ∃ n, wX_countAll_57 post c cd cc n 0 a1 a2 a3 a4 a5 a6 a7 a8 a9 a10 a11 a12 a13 a14 a15 a16 a17 := by
  obtain ⟨t4, t5, t7, t8, t9, t12, t13⟩ := ht
  refine qv_up (σ := (Nat → Int32) × (Nat → Int32)) (fun n z s => wX_countAll_57 post c cd cc n z a1 a2 a3 s.1 s.2 a6 a7 a8 a9 a10 a11 a12 a13 a14 a15 a16 a17) (fun a s => (∀ k, k < 5 * a → s.1 k = qv_M (qv_cp L) k) ∧ (∀ k, k < a → s.2 k = qv_B (qv_cp L) k) ∧ qv_tz 25 s.1 ∧ qv_tz 5 s.2) 0 5 (a4, a5) (by omega) ⟨fun k hk => absurd hk (by omega), fun k hk => absurd hk (by omega), t4, t5⟩ ?_ ?_
  · intro n a s _ ha ⟨i1, i2, i3, i4⟩ hw
    refine br_f (nI_ge (b := 5) ha (by decide)) ⟨pk_in a 5 ha, nm_r (e' := upd s.2 a 0) (by rw [nI_clamp (show a < 2 ^ 31 by omega)]) ?_⟩
    refine qv_count71 hb.1 ha h3 i1 ?_ pk_us i3 (qv_tz_upd i4 ha) (fun a4' a5' j1 j2 j3 j4 => hw (a4', a5') ⟨j1, j2, j3, j4⟩)
    intro k hk
    rw [pk_un (by omega)]
    exact i2 k hk
  · intro n s ⟨i1, i2, i3, i4⟩
    refine br_t (nI_le (a := 5) (Nat.le_refl _) (by omega)) (H _ ⟨hb, hcd, ⟨h3, ?_, ?_⟩, ⟨i3, i4, t7, t8, t9, t12, t13⟩⟩)
    · exact qv_ext i3 (qv_M_tz _) i1
    · exact qv_ext i4 (qv_B_tz _) i2
theorem qv_count36 {post : St2 → Prop} {L : List Nat} (hb : qv_bal L c a1 a2) (hcd : ¬ cd = 0) (h3 : ∀ k, k < 25 → a3 k = 0) (ht : qv_tzs a4 a5 a7 a8 a9 a12 a13)
    (H : ∀ u, qv_okc L u → post u) : ∃ n, wX_countAll_36 post n 0 c cd cc a1 a2 a3 a4 a5 a6 a7 a8 a9 a10 a11 a12 a13 a14 a15 a16 a17 := by
  have hb0 := hb
  obtain ⟨h1, h2, e, h4, h5⟩ := hb
  subst e
  refine qv_up (fun n z s => wX_countAll_36 post n z (nI L.length) cd cc a1 a2 s a4 a5 a6 a7 a8 a9 a10 a11 a12 a13 a14 a15 a16 a17) (fun i s => ∀ a b, a < 5 → b < 5 → s (5 * a + b) = nI (qv_bm (qv_pf a b) (L.take i))) 0 L.length a3 (by omega) ?_ ?_ ?_
  · intro a b ha hb'
    exact h3 _ (by omega)
  · intro n i s _ hi hI hw
    have hv : qv_vo (L.getD i 0) = true := h2 _ (qv_getD_mem hi)
    refine br_f (nI_ge hi (by omega)) (qv_countBallot (x := fun a b => qv_bm (qv_pf a b) (L.take i)) (by omega) hv ?_ (fun k hk => h5 i k hi hk) hI (fun a3' h' => nm_r (nI_1 i) (hw a3' ?_)))
    · intro a b _ _
      have t := qv_bm_lt (qv_pf a b) (L.take i)
      rwa [List.length_take_of_le (by omega)] at t
    · intro a b ha hb'
      rw [h' a b ha hb', qv_take1 hi, qv_bm_app, List.length_take_of_le (by omega)]
  · intro n s hI
    refine br_t (nI_le (Nat.le_refl _) (by omega)) (qv_count57 hb0 hcd ?_ ht H)
    intro a b ha hb'
    rw [hI a b ha hb', List.take_length]
theorem qv_countAll {post : St2 → Prop} {L : List Nat} (h : qv_ok L (c, cd, cc, a1, a2, a3, a4, a5, a6, a7, a8, a9, a10, a11, a12, a13, a14, a15, a16, a17)) (H : ∀ u, qv_okc L u → post u) : wpX_countAll post (c, cd, cc, a1, a2, a3, a4, a5, a6, a7, a8, a9, a10, a11, a12, a13, a14, a15, a16, a17) := by
  obtain ⟨hb, hc, ht⟩ := h
  refine br_c (fun z => ?_) (fun z => H _ ⟨hb, z, hc z, ht⟩)
  refine qv_up (fun n z s => wX_countAll_15 post c 1 cc n z a1 a2 s a4 a5 a6 a7 a8 a9 a10 a11 a12 a13 a14 a15 a16 a17) (fun i s => ∀ k, k < i → s k = 0) 0 25 a3 (by omega) (fun k hk => absurd hk (by omega)) ?_ ?_
  · intro n i s _ hi hI hw
    refine br_f (nI_ge (b := 25) hi (by decide)) ⟨pk_in i 25 hi, nm_r (e' := upd s i 0) (by rw [nI_clamp (show i < 2 ^ 31 by omega)]) (nm_r (nI_1 i) (hw _ (qv_fill (f := fun _ => 0) rfl hI rfl)))⟩
  · intro n s hI
    exact br_t (nI_le (a := 25) (Nat.le_refl _) (by omega)) (qv_count36 hb (by decide) hI ht H)
theorem qv_okc_ok {L : List Nat} {u : St2} (h : qv_okc L u) : qv_ok L u := by
  obtain ⟨c, cd, cc, a1, a2, a3, a4, a5, a6, a7, a8, a9, a10, a11, a12, a13, a14, a15, a16, a17⟩ := u
  obtain ⟨h1, h2, h3, h4⟩ := h
  exact ⟨h1, fun _ => h3, h4⟩
theorem qv_margin {post : Int32 → St2 → Prop} {L : List Nat} {a b : Nat} (h : qv_ok L (c, cd, cc, a1, a2, a3, a4, a5, a6, a7, a8, a9, a10, a11, a12, a13, a14, a15, a16, a17)) (ha : a < 5) (hb : b < 5) (H : ∀ u, qv_okc L u → post (nI (qv_C (qv_cp L) a b) - nI (qv_C (qv_cp L) b a)) u) : wpX_margin post (c, cd, cc, a1, a2, a3, a4, a5, a6, a7, a8, a9, a10, a11, a12, a13, a14, a15, a16, a17) (nI a) (nI b) := by
  unfold wpX_margin
  dsimp only
  refine qv_cand ha ?_
  refine br_f (by decide) ?_
  refine qv_cand hb ?_
  refine br_f (by decide) ?_
  refine qv_countAll h (fun u h' => ?_)
  obtain ⟨c, cd, cc, a1, a2, a3, a4, a5, a6, a7, a8, a9, a10, a11, a12, a13, a14, a15, a16, a17⟩ := u
  obtain ⟨hb1, hcd, ⟨h3, e4, e5⟩, ht⟩ := h'
  subst e4
  refine ⟨pk_in (5 * a + b) 25 (by omega) (qv_ix a b), ?_⟩
  rw [qv_ixc (by omega) (by omega)]
  have h2 := H (c, cd, cc, a1, a2, a3, qv_M (qv_cp L), a5, a6, a7, a8, a9, a10, a11, a12, a13, a14, a15, a16, a17) ⟨hb1, hcd, ⟨h3, rfl, e5⟩, ht⟩
  rw [← qv_M_at _ ha hb] at h2
  exact h2
end
end
section
/-! scores: rules 0 to 5 -/
def qv_pts (K : (Nat → Bool) → Nat) (s q : Nat) : Nat := qv_sum (fun b => if s.testBit b then qv_C K q b else 0) 5
def qv_cops (M : Nat → Int32) (q b : Nat) (x : Int32) : Int32 := if b = q then x else if M (5 * q + b) ≤ 0 then (if M (5 * q + b) = 0 then x + 1 else x + 0) else x + 2
def qv_cop (M : Nat → Int32) (q : Nat) : Int32 := qv_it (qv_cops M q) 5 0
def qv_smls (M : Nat → Int32) (q b : Nat) (x : Int32) : Int32 := if b = q then x else if x ≤ M (5 * q + b) then x else M (5 * q + b)
def qv_sml (M : Nat → Int32) (q : Nat) : Int32 := qv_it (qv_smls M q) 5 100
def qv_nh (K : (Nat → Bool) → Nat) (n k : Nat) : Bool := qv_allb (fun q => decide (2 * K (fun o => decide (qv_pl o q < k)) ≤ n)) 5
def qv_kk (K : (Nat → Bool) → Nat) (n : Nat) : Nat → Nat → Nat
  | 0, k => k
  | d + 1, k => if qv_nh K n k = true then qv_kk K n d (k + 1) else k
def qv_sc (K : (Nat → Bool) → Nat) (n : Nat) (r q : Nat) : Int32 := match r with
  | 0 => nI (K (fun o => decide (qv_pl o q = 0)))
  | 1 => -nI (K (fun o => decide (qv_pl o q = 4)))
  | 2 => nI (qv_pts K 31 q)
  | 3 => qv_cop (qv_M K) q
  | 4 => qv_sml (qv_M K) q
  | _ => nI (K (fun o => decide (qv_pl o q < qv_kk K n 4 1)))
def qv_gst (sc : Nat → Int32) (q : Nat) (s : Int32 × Int32) : Int32 × Int32 :=
  if sc q < s.2 then (if sc q ≤ s.2 then s.1 else 0, s.2) else ((if sc q ≤ s.2 then s.1 else 0) ||| ((1 : Int32) <<< (nI q &&& 31)), sc q)
def qv_gs (sc : Nat → Int32) : Int32 := (qv_it (qv_gst sc) 5 (0, -1000)).1
theorem qv_cnt1 (p : Nat → Bool) (L : List Nat) (o : Nat) : (L ++ [o]).countP p = L.countP p + (if p o then 1 else 0) := by
  rw [List.countP_append, List.countP_cons, List.countP_nil, Nat.zero_add]
theorem qv_neg1 (n : Nat) : -nI n + (-1) = -nI (n + 1) := by
  rw [nI_succ, Int32.neg_add, Int32.sub_eq_add_neg]
section
variable {c cd cc : Int32} {a1 a2 a3 a4 a5 a6 a7 a8 a9 a10 a11 a12 a13 a14 a15 a16 a17 : Nat → Int32}
theorem qv_fs0 {post : St2 → Prop} {L : List Nat} (hb : qv_bal L c a1 a2) (h6 : ∀ q, q < 5 → a6 q = 0)
    (H : ∀ a6', (∀ q, q < 5 → a6' q = nI (qv_cp L (fun o => decide (qv_pl o q = 0)))) → post (c, cd, cc, a1, a2, a3, a4, a5, a6', a7, a8, a9, a10, a11, a12, a13, a14, a15, a16, a17)) : ∃ n, wX_findScores_31 post 0 c cd cc n 0 a1 a2 a3 a4 a5 a6 a7 a8 a9 a10 a11 a12 a13 a14 a15 a16 a17 := by
  obtain ⟨h1, h2, e, h4, h5⟩ := hb
  subst e
  refine qv_up (fun n z s => wX_findScores_31 post 0 (nI L.length) cd cc n z a1 a2 a3 a4 a5 s a7 a8 a9 a10 a11 a12 a13 a14 a15 a16 a17) (fun i s => ∀ q, q < 5 → s q = nI ((L.take i).countP (fun o => decide (qv_pl o q = 0)))) 0 L.length a6 (by omega) (fun q hq => h6 q hq) ?_ ?_
  · intro n i s _ hi hI hw
    have hv : qv_vo (L.getD i 0) = true := h2 _ (qv_getD_mem hi)
    have d1 := qv_dg_lt' (L.getD i 0) 0
    refine br_f (nI_ge hi (by omega)) (br_t rfl ?_)
    unfold wX_findScores_59
    have e1 : (5 : Int32) * nI i + 0 = nI (5 * i + 0) := qv_ix i 0
    rw [e1, nI_clamp (show 5 * i + 0 < 2 ^ 31 by omega), h5 i 0 hi (by omega), nI_clamp (show qv_dg (L.getD i 0) 0 < 2 ^ 31 by omega)]
    refine ⟨pk_in (5 * i + 0) 45 (by omega), pk_in _ 5 d1, br_t rfl ⟨pk_in _ 5 d1, nm_e (nm_r (nI_1 i) (hw _ ?_))⟩⟩
    intro q hq
    rw [qv_take1 hi, qv_cnt1]
    by_cases eq : q = qv_dg (L.getD i 0) 0
    · rw [← eq, pk_us, hI q hq, nI_1, if_pos (decide_eq_true ((qv_pl_iff hv hq (by omega)).mpr eq.symm))]
    · rw [pk_un eq, hI q hq, if_neg (fun z => eq ((qv_pl_iff hv hq (by omega)).mp (of_decide_eq_true z)).symm)]
      rfl
  · intro n s hI
    refine br_t (nI_le (Nat.le_refl _) (by omega)) (H s (fun q hq => ?_))
    rw [hI q hq, List.take_length]
    rfl
theorem qv_fs1 {post : St2 → Prop} {L : List Nat} (hb : qv_bal L c a1 a2) (h6 : ∀ q, q < 5 → a6 q = 0)
    (H : ∀ a6', (∀ q, q < 5 → a6' q = -nI (qv_cp L (fun o => decide (qv_pl o q = 4)))) → post (c, cd, cc, a1, a2, a3, a4, a5, a6', a7, a8, a9, a10, a11, a12, a13, a14, a15, a16, a17)) : ∃ n, wX_findScores_31 post 1 c cd cc n 0 a1 a2 a3 a4 a5 a6 a7 a8 a9 a10 a11 a12 a13 a14 a15 a16 a17 := by
  obtain ⟨h1, h2, e, h4, h5⟩ := hb
  subst e
  refine qv_up (fun n z s => wX_findScores_31 post 1 (nI L.length) cd cc n z a1 a2 a3 a4 a5 s a7 a8 a9 a10 a11 a12 a13 a14 a15 a16 a17) (fun i s => ∀ q, q < 5 → s q = -nI ((L.take i).countP (fun o => decide (qv_pl o q = 4)))) 0 L.length a6 (by omega) (fun q hq => by rw [h6 q hq]; show (0 : Int32) = -nI 0; decide) ?_ ?_
  · intro n i s _ hi hI hw
    have hv : qv_vo (L.getD i 0) = true := h2 _ (qv_getD_mem hi)
    have d1 := qv_dg_lt' (L.getD i 0) 4
    refine br_f (nI_ge hi (by omega)) (br_f (by decide) ?_)
    unfold wX_findScores_59
    have e1 : (5 : Int32) * nI i + 4 = nI (5 * i + 4) := qv_ix i 4
    rw [e1, nI_clamp (show 5 * i + 4 < 2 ^ 31 by omega), h5 i 4 hi (by omega), nI_clamp (show qv_dg (L.getD i 0) 4 < 2 ^ 31 by omega)]
    refine ⟨pk_in (5 * i + 4) 45 (by omega), pk_in _ 5 d1, br_f (by decide) ⟨pk_in _ 5 d1, nm_e (nm_r (nI_1 i) (hw _ ?_))⟩⟩
    intro q hq
    rw [qv_take1 hi, qv_cnt1]
    by_cases eq : q = qv_dg (L.getD i 0) 4
    · rw [← eq, pk_us, hI q hq, qv_neg1, if_pos (decide_eq_true ((qv_pl_iff hv hq (by omega)).mpr eq.symm))]
    · rw [pk_un eq, hI q hq, if_neg (fun z => eq ((qv_pl_iff hv hq (by omega)).mp (of_decide_eq_true z)).symm)]
      rfl
  · intro n s hI
    refine br_t (nI_le (Nat.le_refl _) (by omega)) (H s (fun q hq => ?_))
    rw [hI q hq, List.take_length]
    rfl
theorem qv_among {post : St2 → Prop} {L : List Nat} {k : Nat} (hb : qv_bal L c a1 a2) (hk : k ≤ 5)
    (H : ∀ a6', (∀ q, q < 5 → a6' q = nI (qv_cp L (fun o => decide (qv_pl o q < k)))) → post (c, cd, cc, a1, a2, a3, a4, a5, a6', a7, a8, a9, a10, a11, a12, a13, a14, a15, a16, a17)) : wpX_countAmongFirst post (c, cd, cc, a1, a2, a3, a4, a5, a6, a7, a8, a9, a10, a11, a12, a13, a14, a15, a16, a17) (nI k) := by
  obtain ⟨h1, h2, e, h4, h5⟩ := hb
  subst e
  refine qv_up (fun n z s => wX_countAmongFirst_2 post (nI k) (nI L.length) cd cc n z a1 a2 a3 a4 a5 s a7 a8 a9 a10 a11 a12 a13 a14 a15 a16 a17) (fun i s => ∀ q, q < i → s q = 0) 0 5 a6 (by omega) (fun q hq => absurd hq (by omega)) ?_ ?_
  · intro n i s _ hi hI hw
    exact br_f (nI_ge (b := 5) hi (by decide)) ⟨pk_in i 5 hi, nm_r (e' := upd s i 0) (by rw [nI_clamp (show i < 2 ^ 31 by omega)]) (nm_r (nI_1 i) (hw _ (qv_fill (f := fun _ => 0) rfl hI rfl)))⟩
  · intro n s h6
    refine br_t (nI_le (a := 5) (Nat.le_refl _) (by omega)) ?_
    refine qv_up (fun n z s => wX_countAmongFirst_22 post (nI k) (nI L.length) cd cc n z a1 a2 a3 a4 a5 s a7 a8 a9 a10 a11 a12 a13 a14 a15 a16 a17) (fun i s => ∀ q, q < 5 → s q = nI ((L.take i).countP (fun o => decide (qv_pl o q < k)))) 0 L.length s (by omega) (fun q hq => h6 q hq) ?_ ?_
    · intro n i s _ hi hI hw
      have hv : qv_vo (L.getD i 0) = true := h2 _ (qv_getD_mem hi)
      refine br_f (nI_ge hi (by omega)) ?_
      refine qv_up (fun n' z s => wX_countAmongFirst_32 post (wX_countAmongFirst_22 post (nI k) (nI L.length) cd cc n) (nI k) (nI i) (nI L.length) cd cc n' z a1 a2 a3 a4 a5 s a7 a8 a9 a10 a11 a12 a13 a14 a15 a16 a17) (fun l s => ∀ q, q < 5 → s q = nI ((L.take i).countP (fun o => decide (qv_pl o q < k)) + if qv_pl (L.getD i 0) q < l then 1 else 0)) 0 k s (by omega) (fun q hq => hI q hq) ?_ ?_
      · intro n' l s' _ hl hI' hw'
        have d1 := qv_dg_lt' (L.getD i 0) l
        refine br_f (nI_ge hl (by omega)) ?_
        rw [qv_ixc (i := i) (k := l) (by omega) (by omega), h5 i l hi (by omega), nI_clamp (show qv_dg (L.getD i 0) l < 2 ^ 31 by omega)]
        refine ⟨pk_in (5 * i + l) 45 (by omega) (qv_ix i l), pk_in _ 5 d1, pk_in _ 5 d1, nm_e (nm_r (nI_1 l) (hw' _ ?_))⟩
        intro q hq
        by_cases eq : q = qv_dg (L.getD i 0) l
        · have ep := (qv_pl_iff hv hq (show l < 5 by omega)).mpr eq.symm
          rw [← eq, pk_us, hI' q hq, nI_1, if_neg (by omega), if_pos (by omega)]
        · have ep : ¬ qv_pl (L.getD i 0) q = l := fun z => eq ((qv_pl_iff hv hq (show l < 5 by omega)).mp z).symm
          rw [pk_un eq, hI' q hq]
          congr 2
          by_cases t : qv_pl (L.getD i 0) q < l
          · rw [if_pos t, if_pos (by omega)]
          · rw [if_neg t, if_neg (by omega)]
      · intro n' s' hI'
        refine br_t (nI_le (Nat.le_refl _) (by omega)) (nm_r (nI_1 i) (hw s' (fun q hq => ?_)))
        rw [hI' q hq, qv_take1 hi, qv_cnt1]
        congr 2
        by_cases t : qv_pl (L.getD i 0) q < k
        · rw [if_pos t, if_pos (decide_eq_true t)]
        · rw [if_neg t, if_neg (fun z => t (of_decide_eq_true z))]
    · intro n s hI
      refine br_t (nI_le (Nat.le_refl _) (by omega)) (H s (fun q hq => ?_))
      rw [hI q hq, List.take_length]
      rfl
theorem qv_half {post : Int32 → Prop} {n : Nat} {h : Nat → Nat} (hc : c = nI n) (hn : n ≤ 9) (hh : ∀ q, h q ≤ 9) (h6 : ∀ q, q < 5 → a6 q = nI (h q))
    (H : post (qv_oI (!(qv_allb (fun q => decide (2 * h q ≤ n)) 5)))) : wpX_hasHalf post (c, cd, cc, a1, a2, a3, a4, a5, a6, a7, a8, a9, a10, a11, a12, a13, a14, a15, a16, a17) := by
  subst hc
  refine qv_first (fun n' z => wX_hasHalf_2 post (nI n) cd cc a1 a2 a3 a4 a5 a6 a7 a8 a9 a10 a11 a12 a13 a14 a15 a16 a17 n' z) (post 0) (post 1) (fun q => decide (n < 2 * h q)) 5 (fun n' z => br_t (nI_le (a := 5) (Nat.le_refl _) (by omega)) z) ?_ ?_ ?_
  · intro n' i hi p1 p0
    have e : (2 : Int32) * nI (h i) = nI (2 * h i) := pk_mul 2 (h i)
    have := hh i
    refine br_f (nI_ge (b := 5) hi (by decide)) ⟨pk_in i 5 hi, ?_⟩
    rw [nI_clamp (show i < 2 ^ 31 by omega), h6 i hi, e]
    exact pk_le (2 * h i) n (fun z => nm_r (nI_1 i) (p0 (decide_eq_false (by omega)))) (fun z => p1 (decide_eq_true z))
  · intro z
    have : qv_allb (fun q => decide (2 * h q ≤ n)) 5 = true := (qv_allb_iff _ _).mpr (fun q hq => decide_eq_true (by have := of_decide_eq_false (z q hq); omega))
    rw [this] at H
    exact H
  · intro ⟨q, hq, z⟩
    have : qv_allb (fun q => decide (2 * h q ≤ n)) 5 = false := by
      cases t : qv_allb (fun q => decide (2 * h q ≤ n)) 5 with
      | false => rfl
      | true =>
        have t1 := of_decide_eq_true ((qv_allb_iff _ _).mp t q hq)
        have t2 := of_decide_eq_true z
        omega
    rw [this] at H
    exact H
theorem qv_fs5 {post : St2 → Prop} {L : List Nat} (hb : qv_bal L c a1 a2) : ∀ (d k : Nat) (b6 : Nat → Int32) (n : Nat), k + d = 5 → d < n →
    (∀ q, q < 5 → b6 q = nI (qv_cp L (fun o => decide (qv_pl o q < k)))) →
    (∀ a6', (∀ q, q < 5 → a6' q = nI (qv_cp L (fun o => decide (qv_pl o q < qv_kk (qv_cp L) L.length d k)))) → post (c, cd, cc, a1, a2, a3, a4, a5, a6', a7, a8, a9, a10, a11, a12, a13, a14, a15, a16, a17)) → wX_findScores_95 post n (nI k) c cd cc a1 a2 a3 a4 a5 b6 a7 a8 a9 a10 a11 a12 a13 a14 a15 a16 a17 := by
  intro d
  induction d with
  | zero =>
    intro k b6 n hk hn h6 H
    obtain ⟨m, rfl⟩ : ∃ m, n = m + 1 := ⟨n - 1, by omega⟩
    have e : k = 5 := by omega
    subst e
    exact br_t (nI_le (a := 5) (Nat.le_refl _) (by omega)) (H b6 h6)
  | succ d ih =>
    intro k b6 n hk hn h6 H
    obtain ⟨m, rfl⟩ : ∃ m, n = m + 1 := ⟨n - 1, by omega⟩
    refine br_f (nI_ge (b := 5) (by omega) (by decide)) (qv_half hb.2.2.1 hb.1 (fun q => Nat.le_trans (qv_cp_le L _) hb.1) h6 ?_)
    show ((qv_oI (!(qv_nh (qv_cp L) L.length k))) = 0 → _) ∧ (¬ (qv_oI (!(qv_nh (qv_cp L) L.length k))) = 0 → _)
    cases t : qv_nh (qv_cp L) L.length k with
    | true =>
      refine br_t rfl (nm_r (nI_1 k) (qv_among hb (by omega) (fun b6' h6' => ih (k + 1) b6' m (by omega) (by omega) h6' (fun a6' h' => H a6' ?_))))
      intro q hq
      rw [h' q hq]
      show _ = nI (qv_cp L (fun o => decide (qv_pl o q < if qv_nh (qv_cp L) L.length k = true then qv_kk (qv_cp L) L.length d (k + 1) else k)))
      rw [if_pos t]
    | false =>
      refine br_f (by decide) (H b6 ?_)
      intro q hq
      rw [h6 q hq]
      show _ = nI (qv_cp L (fun o => decide (qv_pl o q < if qv_nh (qv_cp L) L.length k = true then qv_kk (qv_cp L) L.length d (k + 1) else k)))
      rw [if_neg (by rw [t]; decide)]
theorem qv_points {post : Int32 → Prop} {L : List Nat} {q s : Nat} (hL : L.length ≤ 9) (hq : q < 5) (hs : s < 32) (h3 : ∀ a b, a < 5 → b < 5 → a3 (5 * a + b) = nI (qv_bm (qv_pf a b) L))
    (H : post (nI (qv_pts (qv_cp L) s q))) : wpX_pointsOf post (c, cd, cc, a1, a2, a3, a4, a5, a6, a7, a8, a9, a10, a11, a12, a13, a14, a15, a16, a17) (nI q) (nI s) := by
  unfold qv_pts at H
  refine qv_up (fun n z x => wX_pointsOf_5 post (nI q) (nI s) c cd cc a1 a2 a3 a4 a5 a6 a7 a8 a9 a10 a11 a12 a13 a14 a15 a16 a17 n x z) (fun b x => x = nI (qv_sum (fun b => if s.testBit b then qv_C (qv_cp L) q b else 0) b)) 0 5 0 (by omega) rfl ?_ ?_
  · intro n b x _ hb hx hw
    subst hx
    refine br_f (nI_ge (b := 5) hb (by decide)) (qv_isInN (by omega) (by omega) (fun z => nm_r (nI_1 b) (hw _ ?_)) (fun z => ⟨pk_in (5 * q + b) 25 (by omega) (qv_ix q b), ?_⟩))
    · show nI (qv_sum _ b) = nI (qv_sum _ b + (if s.testBit b then qv_C (qv_cp L) q b else 0))
      rw [z]; rfl
    · rw [qv_ixc (by omega) (by omega), h3 q b hq hb]
      refine qv_onesB hL (nm_r (nI_add _ _) (nm_r (nI_1 b) (hw _ ?_)))
      show nI (qv_sum _ b + qv_C (qv_cp L) q b) = nI (qv_sum _ b + (if s.testBit b then qv_C (qv_cp L) q b else 0))
      rw [z]; rfl
  · intro n x hx
    subst hx
    exact br_t (nI_le (a := 5) (Nat.le_refl _) (by omega)) H
theorem qv_copeland {post : Int32 → Prop} {q : Nat} (hq : q < 5) (H : post (qv_cop a4 q)) : wpX_copeland post (c, cd, cc, a1, a2, a3, a4, a5, a6, a7, a8, a9, a10, a11, a12, a13, a14, a15, a16, a17) (nI q) := by
  unfold qv_cop at H
  refine qv_fo (fun n z x => wX_copeland_4 post (nI q) c cd cc a1 a2 a3 a4 a5 a6 a7 a8 a9 a10 a11 a12 a13 a14 a15 a16 a17 n x z) (qv_cops a4 q) 5 0 ?_ (fun n => br_t (nI_le (a := 5) (Nat.le_refl _) (by omega)) H)
  intro n b x hb hw
  refine br_f (nI_ge (b := 5) hb (by decide)) (pk_eq b q (fun e => nm_r (nI_1 b) ?_) (fun e => ⟨pk_in (5 * q + b) 25 (by omega) (qv_ix q b), ?_⟩))
  · unfold qv_cops at hw
    rw [if_pos e] at hw
    exact hw
  · rw [qv_ixc (by omega) (by omega)]
    unfold qv_cops at hw
    rw [if_neg e] at hw
    refine nm_e (br_c (fun z => br_c (fun z2 => nm_e (nm_r (nI_1 b) ?_)) (fun z2 => nm_e (nm_r (nI_1 b) ?_))) (fun z => nm_e (nm_r (nI_1 b) ?_)))
    · rw [if_pos z, if_pos z2] at hw; exact hw
    · rw [if_pos z, if_neg z2] at hw; exact hw
    · rw [if_neg z] at hw; exact hw
theorem qv_small {post : Int32 → Prop} {q : Nat} (hq : q < 5) (H : post (qv_sml a4 q)) : wpX_smallestMargin post (c, cd, cc, a1, a2, a3, a4, a5, a6, a7, a8, a9, a10, a11, a12, a13, a14, a15, a16, a17) (nI q) := by
  unfold qv_sml at H
  refine qv_fo (fun n z x => wX_smallestMargin_5 post (nI q) c cd cc a1 a2 a3 a4 a5 a6 a7 a8 a9 a10 a11 a12 a13 a14 a15 a16 a17 n x z) (qv_smls a4 q) 5 100 ?_ (fun n => br_t (nI_le (a := 5) (Nat.le_refl _) (by omega)) H)
  intro n b x hb hw
  refine br_f (nI_ge (b := 5) hb (by decide)) (pk_eq b q (fun e => nm_r (nI_1 b) ?_) (fun e => ⟨pk_in (5 * q + b) 25 (by omega) (qv_ix q b), ?_⟩))
  · unfold qv_smls at hw
    rw [if_pos e] at hw
    exact hw
  · rw [qv_ixc (by omega) (by omega)]
    unfold qv_smls at hw
    rw [if_neg e] at hw
    refine br_c (fun z => nm_r (nI_1 b) ?_) (fun z => ⟨pk_in (5 * q + b) 25 (by omega) (qv_ix q b), nm_e (nm_r (nI_1 b) ?_)⟩)
    · rw [if_pos z] at hw; exact hw
    · rw [if_neg z] at hw; exact hw
theorem qv_fs123 {post : St2 → Prop} {L : List Nat} {r : Nat} (hr : 2 ≤ r) (hr4 : r ≤ 4) (h : qv_okc L (c, cd, cc, a1, a2, a3, a4, a5, a6, a7, a8, a9, a10, a11, a12, a13, a14, a15, a16, a17))
    (H : ∀ a6', (∀ q, q < 5 → a6' q = qv_sc (qv_cp L) L.length r q) → post (c, cd, cc, a1, a2, a3, a4, a5, a6', a7, a8, a9, a10, a11, a12, a13, a14, a15, a16, a17)) : ∃ n, wX_findScores_123 post (nI r) c cd cc n 0 a1 a2 a3 a4 a5 a6 a7 a8 a9 a10 a11 a12 a13 a14 a15 a16 a17 := by
  obtain ⟨hb, hcd, ⟨h3, e4, e5⟩, ht⟩ := h
  subst e4
  refine qv_up (fun n z s => wX_findScores_123 post (nI r) c cd cc n z a1 a2 a3 (qv_M (qv_cp L)) a5 s a7 a8 a9 a10 a11 a12 a13 a14 a15 a16 a17) (fun i s => ∀ q, q < i → s q = qv_sc (qv_cp L) L.length r q) 0 5 a6 (by omega) (fun q hq => absurd hq (by omega)) ?_ ?_
  · intro n i s _ hi hI hw
    have F : ∀ x : Int32, x = qv_sc (qv_cp L) L.length r i → upd s (nI i).toNatClampNeg x = upd s i (qv_sc (qv_cp L) L.length r i) := by
      intro x hx
      rw [nI_clamp (by omega), hx]
    have G := hw _ (qv_fill rfl hI rfl)
    refine br_f (nI_ge (b := 5) hi (by decide)) (pk_eq r 2 (fun e => ?_) (fun e => pk_eq r 3 (fun e' => ?_) (fun e' => ?_)))
    · exact qv_points (s := 31) hb.1 hi (by omega) h3 ⟨pk_in i 5 hi, nm_r (F _ (by rw [e]; rfl)) (nm_r (nI_1 i) G)⟩
    · exact qv_copeland hi ⟨pk_in i 5 hi, nm_r (F _ (by rw [e']; rfl)) (nm_r (nI_1 i) G)⟩
    · exact qv_small hi ⟨pk_in i 5 hi, nm_r (F _ (by rw [show r = 4 by omega]; rfl)) (nm_r (nI_1 i) G)⟩
  · intro n s hI
    exact br_t (nI_le (a := 5) (Nat.le_refl _) (by omega)) (H s hI)
theorem qv_findScores {post : St2 → Prop} {L : List Nat} {r : Nat} (hr : r ≤ 5) (h : qv_okc L (c, cd, cc, a1, a2, a3, a4, a5, a6, a7, a8, a9, a10, a11, a12, a13, a14, a15, a16, a17))
    (H : ∀ a6', (∀ q, q < 5 → a6' q = qv_sc (qv_cp L) L.length r q) → post (c, cd, cc, a1, a2, a3, a4, a5, a6', a7, a8, a9, a10, a11, a12, a13, a14, a15, a16, a17)) : wpX_findScores post (c, cd, cc, a1, a2, a3, a4, a5, a6, a7, a8, a9, a10, a11, a12, a13, a14, a15, a16, a17) (nI r) := by
  refine qv_up (fun n z s => wX_findScores_2 post (nI r) c cd cc n z a1 a2 a3 a4 a5 s a7 a8 a9 a10 a11 a12 a13 a14 a15 a16 a17) (fun i s => ∀ q, q < i → s q = 0) 0 5 a6 (by omega) (fun q hq => absurd hq (by omega)) ?_ ?_
  · intro n i s _ hi hI hw
    exact br_f (nI_ge (b := 5) hi (by decide)) ⟨pk_in i 5 hi, nm_r (e' := upd s i 0) (by rw [nI_clamp (show i < 2 ^ 31 by omega)]) (nm_r (nI_1 i) (hw _ (qv_fill (f := fun _ => 0) rfl hI rfl)))⟩
  · intro n s hI
    refine br_t (nI_le (a := 5) (Nat.le_refl _) (by omega)) (pk_eq r 0 (fun e => ?_) (fun e => pk_eq r 1 (fun e1 => ?_) (fun e1 => pk_eq r 5 (fun e5 => ?_) (fun e5 => ?_))))
    · subst e
      exact qv_fs0 h.1 hI H
    · subst e1
      exact qv_fs1 h.1 hI H
    · subst e5
      refine qv_among (k := 1) h.1 (by omega) (fun b6 h6 => ⟨5, qv_fs5 h.1 4 1 b6 5 (by omega) (by omega) h6 H⟩)
    · exact qv_fs123 (by omega) (by omega) h H
theorem qv_greatest {post : Int32 → St2 → Prop} {L : List Nat} {r : Nat} (hr : r ≤ 5) (h : qv_okc L (c, cd, cc, a1, a2, a3, a4, a5, a6, a7, a8, a9, a10, a11, a12, a13, a14, a15, a16, a17))
    (H : ∀ a6', post (qv_gs (qv_sc (qv_cp L) L.length r)) (c, cd, cc, a1, a2, a3, a4, a5, a6', a7, a8, a9, a10, a11, a12, a13, a14, a15, a16, a17)) : wpX_greatestScores post (c, cd, cc, a1, a2, a3, a4, a5, a6, a7, a8, a9, a10, a11, a12, a13, a14, a15, a16, a17) (nI r) := by
  unfold wpX_greatestScores
  dsimp only
  refine qv_findScores hr h (fun a6' h6 => ?_)
  have H := H a6'
  unfold qv_gs at H
  refine qv_fo (σ := Int32 × Int32) (fun n z s => wX_greatestScores_14 post c cd cc a1 a2 a3 a4 a5 a6' a7 a8 a9 a10 a11 a12 a13 a14 a15 a16 a17 n s.1 s.2 z) (qv_gst (qv_sc (qv_cp L) L.length r)) 5 (0, -1000) ?_ (fun n => br_t (nI_le (a := 5) (Nat.le_refl _) (by omega)) H)
  intro n q s hq hw
  have key : ∀ y : Int32, y = (if qv_sc (qv_cp L) L.length r q ≤ s.2 then s.1 else 0) → wX_greatestScores_33 post (wX_greatestScores_14 post c cd cc a1 a2 a3 a4 a5 a6' a7 a8 a9 a10 a11 a12 a13 a14 a15 a16 a17 n) y s.2 (nI q) c cd cc a1 a2 a3 a4 a5 a6' a7 a8 a9 a10 a11 a12 a13 a14 a15 a16 a17 := by
    intro y hy
    unfold wX_greatestScores_33
    rw [nI_clamp (show q < 2 ^ 31 by omega), h6 q hq]
    unfold qv_gst at hw
    rw [← hy] at hw
    refine ⟨pk_in q 5 hq, br_c (fun z => nm_r (nI_1 q) ?_) (fun z => ⟨pk_in q 5 hq, nm_e (nm_e (nm_r (nI_1 q) ?_))⟩)⟩
    · rw [if_pos z] at hw; exact hw
    · rw [if_neg z] at hw; exact hw
  refine br_f (nI_ge (b := 5) hq (by decide)) ⟨pk_in q 5 hq, ?_⟩
  rw [nI_clamp (show q < 2 ^ 31 by omega), h6 q hq]
  exact br_c (fun z => key _ (by rw [if_pos z])) (fun z => key _ (by rw [if_neg z]))
theorem qv_score {post : Int32 → St2 → Prop} {L : List Nat} {r q : Nat} (hr : r ≤ 5) (hq : q < 5) (h : qv_ok L (c, cd, cc, a1, a2, a3, a4, a5, a6, a7, a8, a9, a10, a11, a12, a13, a14, a15, a16, a17))
    (H : ∀ u, qv_okc L u → post (qv_sc (qv_cp L) L.length r q) u) : wpX_score post (c, cd, cc, a1, a2, a3, a4, a5, a6, a7, a8, a9, a10, a11, a12, a13, a14, a15, a16, a17) (nI r) (nI q) := by
  refine br_f (nI_pos (by omega)) (br_f (nI_nlt (a := 5) (b := r) hr (by omega)) ?_)
  refine qv_cand hq ?_
  refine br_f (by decide) ?_
  refine qv_countAll h (fun u h' => ?_)
  obtain ⟨c, cd, cc, a1, a2, a3, a4, a5, a6, a7, a8, a9, a10, a11, a12, a13, a14, a15, a16, a17⟩ := u
  refine qv_findScores hr h' (fun a6' h6 => ⟨pk_in q 5 hq, ?_⟩)
  rw [nI_clamp (show q < 2 ^ 31 by omega), h6 q hq]
  exact H _ h'
end
end
section
/-! eliminations: rules 6, 7, 8 -/
def qv_exb (f : Bool) (s q b o : Nat) : Bool := decide (b = q) || (!(s.testBit b) || (if f then qv_pf q b o else qv_pf b q o))
def qv_ex (f : Bool) (s q : Nat) : Nat → Nat → Bool
  | 0, _ => true
  | b + 1, o => qv_ex f s q b o && qv_exb f s q b o
def qv_es (K : (Nat → Bool) → Nat) (r s q : Nat) : Int32 := if r = 6 then nI (K (qv_ex true s q 5)) else if r = 7 then -nI (K (qv_ex false s q 5)) else nI (qv_pts K s q)
def qv_wst (es : Nat → Int32) (s b : Nat) (x : Int32) : Int32 := if s.testBit b = true then (if x ≤ es b then x else es b) else x
def qv_wr (K : (Nat → Bool) → Nat) (r s : Nat) : Int32 := qv_it (qv_wst (qv_es K r s) s) 5 1000
def qv_clr (s q : Nat) : Nat := s &&& (31 - 2 ^ q)
def qv_elst (K : (Nat → Bool) → Nat) (r s q : Nat) (V : Nat → Int32) : Nat → Int32 := if s.testBit q = true then (if qv_es K r s q = qv_wr K r s then upd V (qv_clr s q) 1 else V) else V
def qv_el (K : (Nat → Bool) → Nat) (r s : Nat) (V : Nat → Int32) : Nat → Int32 := qv_it (qv_elst K r s) 5 V
def qv_bst (K : (Nat → Bool) → Nat) (r j : Nat) (t : Int32 × (Nat → Int32)) : Int32 × (Nat → Int32) :=
  if t.2 (31 - j) = 0 then t else if nI (31 - j) &&& (nI (31 - j) - 1) = 0 then (t.1 ||| nI (31 - j), t.2) else (t.1, qv_el K r (31 - j) t.2)
def qv_ini : Nat → Int32 := fun k => if k = 31 then 1 else 0
def qv_be (K : (Nat → Bool) → Nat) (r : Nat) : Int32 := (qv_it (qv_bst K r) 31 (0, qv_ini)).1
theorem qv_clr_tab : ∀ s, s < 32 → ∀ q, q < 5 → nI s &&& (((1 : Int32) <<< (nI q &&& 31)) ^^^ (-1)) = nI (qv_clr s q) := by decide +kernel
theorem qv_clr_lt {s : Nat} (hs : s < 32) (q : Nat) : qv_clr s q < 32 := Nat.lt_of_le_of_lt Nat.and_le_left hs
theorem qv_full_tab : ∀ n, n < 10 → ((1 : Int32) <<< (nI n &&& 31)) - 1 = nI (2 ^ n - 1) := by decide +kernel
theorem qv_el_tz {K : (Nat → Bool) → Nat} {r s : Nat} (hs : s < 32) {V : Nat → Int32} (h : qv_tz 32 V) : qv_tz 32 (qv_el K r s V) := by
  refine qv_it_inv _ (qv_tz 32) 5 V h ?_
  intro q V' _ h'
  unfold qv_elst
  split
  · split
    · exact qv_tz_upd h' (qv_clr_lt hs q)
    · exact h'
  · exact h'
section
variable {c cd cc : Int32} {a1 a2 a3 a4 a5 a6 a7 a8 a9 a10 a11 a12 a13 a14 a15 a16 a17 : Nat → Int32}
theorem qv_extreme {post : Int32 → Prop} {L : List Nat} {f : Bool} {s q : Nat} (hb : qv_bal L c a1 a2) (hs : s < 32) (hq : q < 5) (h3 : ∀ a b, a < 5 → b < 5 → a3 (5 * a + b) = nI (qv_bm (qv_pf a b) L))
    (H : post (nI (qv_cp L (qv_ex f s q 5)))) : wpX_extremeCount post (c, cd, cc, a1, a2, a3, a4, a5, a6, a7, a8, a9, a10, a11, a12, a13, a14, a15, a16, a17) (nI s) (nI q) (qv_oI f) := by
  have hL := hb.1
  have e := hb.2.2.1
  subst e
  refine nm_r (e' := nI (qv_bm (qv_ex f s q 0) L)) ?_ ?_
  · rw [qv_full_tab _ (by omega), ← qv_bm_true]
    rfl
  refine qv_up (fun n z x => wX_extremeCount_13 post (nI s) (nI q) (qv_oI f) (nI L.length) cd cc a1 a2 a3 a4 a5 a6 a7 a8 a9 a10 a11 a12 a13 a14 a15 a16 a17 n x z) (fun b x => x = nI (qv_bm (qv_ex f s q b) L)) 0 5 _ (by omega) rfl ?_ ?_
  · intro n b x _ hb' hx hw
    subst hx
    have same : (∀ o, qv_exb f s q b o = true) → nI (qv_bm (qv_ex f s q b) L) = nI (qv_bm (qv_ex f s q (b + 1)) L) := by
      intro h
      rw [qv_bm_congr (p := qv_ex f s q b) (q := qv_ex f s q (b + 1)) (fun o => ?_)]
      show _ = (qv_ex f s q b o && qv_exb f s q b o)
      rw [h o, Bool.and_true]
    refine br_f (nI_ge (b := 5) hb' (by decide)) (pk_eq b q (fun e => nm_r (nI_1 b) (hw _ (same (fun o => ?_)))) (fun e => qv_isInN (by omega) (by omega) (fun z => nm_r (nI_1 b) (hw _ (same (fun o => ?_)))) (fun z => ?_)))
    · unfold qv_exb
      rw [decide_eq_true e, Bool.true_or]
    · unfold qv_exb
      rw [z, Bool.not_false, Bool.true_or, Bool.or_true]
    · cases f with
      | false =>
        refine br_t rfl ⟨pk_in (5 * b + q) 25 (by omega) (qv_ix b q), ?_⟩
        rw [qv_ixc (by omega) (by omega), h3 b q hb' hq]
        refine nm_r (qv_nand _ _) (nm_r (nI_1 b) (hw _ ?_))
        rw [qv_bm_and]
        congr 1
        refine qv_bm_congr (fun o => ?_) L
        show _ = (qv_ex false s q b o && qv_exb false s q b o)
        unfold qv_exb
        rw [decide_eq_false e, z]
        rfl
      | true =>
        refine br_f (by decide) ⟨pk_in (5 * q + b) 25 (by omega) (qv_ix q b), ?_⟩
        rw [qv_ixc (by omega) (by omega), h3 q b hq hb']
        refine nm_r (qv_nand _ _) (nm_r (nI_1 b) (hw _ ?_))
        rw [qv_bm_and]
        congr 1
        refine qv_bm_congr (fun o => ?_) L
        show _ = (qv_ex true s q b o && qv_exb true s q b o)
        unfold qv_exb
        rw [decide_eq_false e, z]
        rfl
  · intro n x hx
    subst hx
    exact br_t (nI_le (a := 5) (Nat.le_refl _) (by omega)) (qv_onesB hL H)
theorem qv_el103 {post : St2 → Prop} {K : (Nat → Bool) → Nat} {r s : Nat} (hs : s < 32) (h6 : ∀ b, b < 5 → s.testBit b = true → a6 b = qv_es K r s b)
    (H : post (c, cd, cc, a1, a2, a3, a4, a5, a6, qv_el K r s a7, a8, a9, a10, a11, a12, a13, a14, a15, a16, a17)) : ∃ n, wX_eliminate_103 post (nI s) (qv_wr K r s) c cd cc n 0 a1 a2 a3 a4 a5 a6 a7 a8 a9 a10 a11 a12 a13 a14 a15 a16 a17 := by
  unfold qv_el at H
  refine qv_fo (fun n z V => wX_eliminate_103 post (nI s) (qv_wr K r s) c cd cc n z a1 a2 a3 a4 a5 a6 V a8 a9 a10 a11 a12 a13 a14 a15 a16 a17) (qv_elst K r s) 5 a7 ?_ (fun n => br_t (nI_le (a := 5) (Nat.le_refl _) (by omega)) H)
  intro n q V hq hw
  unfold qv_elst at hw
  refine br_f (nI_ge (b := 5) hq (by decide)) (qv_isInN (by omega) (by omega) (fun z => nm_r (nI_1 q) ?_) (fun z => ⟨pk_in q 5 hq, ?_⟩))
  · rw [if_neg (by rw [z]; decide)] at hw
    exact hw
  · rw [if_pos z] at hw
    rw [nI_clamp (show q < 2 ^ 31 by omega), h6 q hq z, qv_clr_tab s hs q hq, nI_clamp (show qv_clr s q < 2 ^ 31 from Nat.lt_trans (qv_clr_lt hs q) (by omega))]
    refine br_c (fun z2 => ⟨pk_in _ 32 (qv_clr_lt hs q), nm_e (nm_r (nI_1 q) ?_)⟩) (fun z2 => nm_r (nI_1 q) ?_)
    · rw [if_pos z2] at hw; exact hw
    · rw [if_neg z2] at hw; exact hw
theorem qv_elim {post : St2 → Prop} {L : List Nat} {r s : Nat} (hr : 6 ≤ r) (hr8 : r ≤ 8) (hs : s < 32) (h : qv_okc L (c, cd, cc, a1, a2, a3, a4, a5, a6, a7, a8, a9, a10, a11, a12, a13, a14, a15, a16, a17))
    (H : ∀ a6', post (c, cd, cc, a1, a2, a3, a4, a5, a6', qv_el (qv_cp L) r s a7, a8, a9, a10, a11, a12, a13, a14, a15, a16, a17)) : wpX_eliminate post (c, cd, cc, a1, a2, a3, a4, a5, a6, a7, a8, a9, a10, a11, a12, a13, a14, a15, a16, a17) (nI r) (nI s) := by
  obtain ⟨hb, hcd, ⟨h3, e4, e5⟩, ht⟩ := h
  refine qv_up (σ := Int32 × (Nat → Int32)) (fun n z t => wX_eliminate_7 post (nI r) (nI s) c cd cc n t.1 z a1 a2 a3 a4 a5 t.2 a7 a8 a9 a10 a11 a12 a13 a14 a15 a16 a17) (fun i t => t.1 = qv_it (qv_wst (qv_es (qv_cp L) r s) s) i 1000 ∧ ∀ b, b < i → s.testBit b = true → t.2 b = qv_es (qv_cp L) r s b) 0 5 (1000, a6) (by omega) ⟨rfl, fun b hb' => absurd hb' (by omega)⟩ ?_ ?_
  · intro n q t _ hq ⟨i1, i2⟩ hw
    have key : s.testBit q = true → ∀ z0, z0 = qv_es (qv_cp L) r s q → wX_eliminate_74 post (wX_eliminate_7 post (nI r) (nI s) c cd cc n) (nI r) (nI s) t.1 (nI q) z0 (nI q) c cd cc a1 a2 a3 a4 a5 t.2 a7 a8 a9 a10 a11 a12 a13 a14 a15 a16 a17 := by
      intro z z0 hz
      unfold wX_eliminate_74
      rw [nI_clamp (show q < 2 ^ 31 by omega), hz]
      have F : ∀ b, b < q + 1 → s.testBit b = true → upd t.2 q (qv_es (qv_cp L) r s q) b = qv_es (qv_cp L) r s b := by
        intro b hb' hz'
        by_cases e : b = q
        · rw [e, pk_us]
        · rw [pk_un e]; exact i2 b (by omega) hz'
      refine ⟨pk_in q 5 hq, nm_e ⟨pk_in q 5 hq, ?_⟩⟩
      rw [pk_us]
      refine br_c (fun z2 => nm_r (nI_1 q) (hw (t.1, upd t.2 q (qv_es (qv_cp L) r s q)) ⟨?_, F⟩)) (fun z2 => ⟨pk_in q 5 hq, nm_e (nm_r (nI_1 q) (hw (qv_es (qv_cp L) r s q, upd t.2 q (qv_es (qv_cp L) r s q)) ⟨?_, F⟩))⟩)
      · show t.1 = qv_wst (qv_es (qv_cp L) r s) s q (qv_it (qv_wst (qv_es (qv_cp L) r s) s) q 1000)
        rw [← i1]
        unfold qv_wst
        rw [if_pos z, if_pos z2]
      · show qv_es (qv_cp L) r s q = qv_wst (qv_es (qv_cp L) r s) s q (qv_it (qv_wst (qv_es (qv_cp L) r s) s) q 1000)
        rw [← i1]
        unfold qv_wst
        rw [if_pos z, if_neg z2]
    refine br_f (nI_ge (b := 5) hq (by decide)) (qv_isInN (by omega) (by omega) (fun z => nm_r (nI_1 q) (hw t ⟨?_, ?_⟩)) (fun z => ?_))
    · show t.1 = qv_wst (qv_es (qv_cp L) r s) s q (qv_it (qv_wst (qv_es (qv_cp L) r s) s) q 1000)
      rw [← i1]
      unfold qv_wst
      rw [if_neg (by rw [z]; decide)]
    · intro b hb' hz'
      by_cases e : b = q
      · rw [e, z] at hz'; exact absurd hz' (by decide)
      · exact i2 b (by omega) hz'
    · refine pk_eq r 6 (fun e => ?_) (fun e => pk_eq r 7 (fun e' => ?_) (fun e' => ?_))
      · exact qv_extreme (f := true) hb hs hq h3 (key z _ (by unfold qv_es; rw [if_pos e]))
      · exact qv_extreme (f := false) hb hs hq h3 (key z _ (by unfold qv_es; rw [if_neg e, if_pos e']))
      · exact qv_points hb.1 hq hs h3 (key z _ (by unfold qv_es; rw [if_neg e, if_neg e']))
  · intro n t ⟨i1, i2⟩
    refine br_t (nI_le (a := 5) (Nat.le_refl _) (by omega)) ?_
    have e : t.1 = qv_wr (qv_cp L) r s := i1
    rw [e]
    exact qv_el103 hs i2 (H t.2)
theorem qv_be34 {post : Int32 → St2 → Prop} {L : List Nat} {r : Nat} (hr : 6 ≤ r) (hr8 : r ≤ 8) (h : qv_okc L (c, cd, cc, a1, a2, a3, a4, a5, a6, a7, a8, a9, a10, a11, a12, a13, a14, a15, a16, a17))
    (H : ∀ a6' a7', qv_tz 32 a7' → post (qv_be (qv_cp L) r) (c, cd, cc, a1, a2, a3, a4, a5, a6', a7', a8, a9, a10, a11, a12, a13, a14, a15, a16, a17)) : ∀ (s n : Nat) (b6 : Nat → Int32), s ≤ 31 → s < n → qv_tz 32 (qv_it (qv_bst (qv_cp L) r) (31 - s) (0, qv_ini)).2 →
      wX_byElimination_34 post (nI r) n (qv_it (qv_bst (qv_cp L) r) (31 - s) (0, qv_ini)).1 (nI s) c cd cc a1 a2 a3 a4 a5 b6 ((qv_it (qv_bst (qv_cp L) r) (31 - s) (0, qv_ini)).2) a8 a9 a10 a11 a12 a13 a14 a15 a16 a17 := by
  intro s
  induction s with
  | zero =>
    intro n b6 hs hn ht
    obtain ⟨m, rfl⟩ : ∃ m, n = m + 1 := ⟨n - 1, by omega⟩
    unfold qv_be at H
    exact br_t (by decide) (H _ _ ht)
  | succ s ih =>
    intro n b6 hs hn ht
    obtain ⟨m, rfl⟩ : ∃ m, n = m + 1 := ⟨n - 1, by omega⟩
    have e31 : 31 - s = (31 - (s + 1)) + 1 := by omega
    have e32 : 31 - (31 - (s + 1)) = s + 1 := by omega
    have IH := ih m
    rw [e31] at IH
    have E : qv_it (qv_bst (qv_cp L) r) ((31 - (s + 1)) + 1) (0, qv_ini) = qv_bst (qv_cp L) r (31 - (s + 1)) (qv_it (qv_bst (qv_cp L) r) (31 - (s + 1)) (0, qv_ini)) := rfl
    rw [E] at IH
    generalize qv_it (qv_bst (qv_cp L) r) (31 - (s + 1)) (0, qv_ini) = t at IH ht ⊢
    unfold qv_bst at IH
    rw [e32] at IH
    refine br_f (nI_nle (by omega) (by omega)) ⟨pk_in (s + 1) 32 (by omega), ?_⟩
    rw [nI_clamp (show s + 1 < 2 ^ 31 by omega)]
    refine br_c (fun z => nm_r (pk_m1 s) ?_) (fun z => br_c (fun z2 => nm_e (nm_r (pk_m1 s) ?_)) (fun z2 => ?_))
    · rw [if_pos z] at IH
      exact IH b6 (by omega) (by omega) ht
    · rw [if_neg z, if_pos z2] at IH
      exact IH b6 (by omega) (by omega) ht
    · rw [if_neg z, if_neg z2] at IH
      obtain ⟨hb, hcd, hcn, ⟨t4, t5, t7, tr⟩⟩ := h
      refine qv_elim (L := L) hr hr8 (by omega) ⟨hb, hcd, hcn, ⟨t4, t5, ht, tr⟩⟩ (fun a6' => nm_r (pk_m1 s) ?_)
      exact IH a6' (by omega) (by omega) (qv_el_tz (by omega) ht)
theorem qv_byElim {post : Int32 → St2 → Prop} {L : List Nat} {r : Nat} (hr : 6 ≤ r) (hr8 : r ≤ 8) (h : qv_okc L (c, cd, cc, a1, a2, a3, a4, a5, a6, a7, a8, a9, a10, a11, a12, a13, a14, a15, a16, a17))
    (H : ∀ a6' a7', qv_tz 32 a7' → post (qv_be (qv_cp L) r) (c, cd, cc, a1, a2, a3, a4, a5, a6', a7', a8, a9, a10, a11, a12, a13, a14, a15, a16, a17)) : wpX_byElimination post (c, cd, cc, a1, a2, a3, a4, a5, a6, a7, a8, a9, a10, a11, a12, a13, a14, a15, a16, a17) (nI r) := by
  have ht := h.2.2.2.2.2.1
  refine qv_up (fun n z s => wX_byElimination_2 post (nI r) c cd cc n z a1 a2 a3 a4 a5 a6 s a8 a9 a10 a11 a12 a13 a14 a15 a16 a17) (fun i s => (∀ k, k < i → s k = 0) ∧ qv_tz 32 s) 0 31 a7 (by omega) ⟨fun k hk => absurd hk (by omega), ht⟩ ?_ ?_
  · intro n i s _ hi ⟨i1, i2⟩ hw
    refine br_f (nI_ge (b := 31) hi (by decide)) ⟨pk_in i 32 (by omega), nm_r (e' := upd s i 0) (by rw [nI_clamp (show i < 2 ^ 31 by omega)]) (nm_r (nI_1 i) (hw _ ⟨qv_fill (f := fun _ => 0) rfl i1 rfl, qv_tz_upd i2 (by omega)⟩))⟩
  · intro n s ⟨i1, i2⟩
    have e : upd s 31 1 = qv_ini := by
      funext k
      unfold qv_ini
      by_cases hk : k = 31
      · rw [if_pos hk, hk, pk_us]
      · rw [if_neg hk, pk_un hk]
        by_cases hk' : k < 31
        · exact i1 k hk'
        · exact i2 k (by omega)
    refine br_t (nI_le (a := 31) (Nat.le_refl _) (by omega)) (nm_r e ⟨32, ?_⟩)
    have hi : qv_tz 32 qv_ini := fun k hk => if_neg (by omega)
    exact qv_be34 hr hr8 h H 31 32 a6 (by omega) (by omega) hi
end
end
section
/-! ways: rules 9 and 12 -/
def qv_V0 (M : Nat → Int32) : Nat → Int32 := fun k => if k < 25 then (if M k ≤ 0 then 0 else vp_nar .byte (M k)) else 0
def qv_pz (V : Nat → Int32) (a q b : Nat) : Int32 := if V (5 * q + b) ≤ V (5 * a + q) then V (5 * q + b) else V (5 * a + q)
def qv_pst (a q b : Nat) (V : Nat → Int32) : Nat → Int32 := if b = a then V else if b = q then V else if qv_pz V a q b ≤ V (5 * a + b) then V else upd V (5 * a + b) ((qv_pz V a q b).toInt8.toInt32)
def qv_po (a q : Nat) (V : Nat → Int32) : Nat → Int32 := qv_it (qv_pst a q) 5 V
def qv_f48 (q a : Nat) (V : Nat → Int32) : Nat → Int32 := if a = q then V else qv_po a q V
def qv_f41 (q : Nat) (V : Nat → Int32) : Nat → Int32 := qv_it (qv_f48 q) 5 V
def qv_str (M : Nat → Int32) : Nat → Int32 := qv_it qv_f41 5 (qv_V0 M)
def qv_sw (V : Nat → Int32) (a : Nat) : Bool := qv_allb (fun b => !decide (V (5 * a + b) < V (5 * b + a))) 5
def qv_bsst (V : Nat → Int32) (a : Nat) (x : Int32) : Int32 := if qv_sw V a = true then x ||| ((1 : Int32) <<< (nI a &&& 31)) else x
def qv_bs (M : Nat → Int32) : Int32 := qv_it (qv_bsst (qv_str M)) 5 0
def qv_clst (q a : Nat) (V : Nat → Int32) : Nat → Int32 := if qv_b (V a) (nI q) = 0 then V else upd V a ((V a ||| V q).toInt8.toInt32)
def qv_clo (V : Nat → Int32) : Nat → Int32 := qv_it (fun q V => qv_it (qv_clst q) 5 V) 5 V
def qv_R0 (B : Nat → Int32) : Nat → Int32 := fun k => if k < 5 then vp_nar .byte (B k) else 0
def qv_uw (R : Nat → Int32) (a : Nat) : Bool := qv_allb (fun b => decide (qv_b (R b) (nI a) = 0) || !decide (qv_b (R a) (nI b) = 0)) 5
def qv_urst (R : Nat → Int32) (a : Nat) (x : Int32) : Int32 := if qv_uw R a = true then x ||| ((1 : Int32) <<< (nI a &&& 31)) else x
def qv_ur (B : Nat → Int32) : Int32 := qv_it (qv_urst (qv_clo (qv_R0 B))) 5 0
theorem qv_pst_tz {a q b : Nat} (ha : a < 5) (hb : b < 5) {V : Nat → Int32} (h : qv_tz 25 V) : qv_tz 25 (qv_pst a q b V) := by
  unfold qv_pst
  split
  · exact h
  · split
    · exact h
    · split
      · exact h
      · exact qv_tz_upd h (by omega)
theorem qv_po_tz {a q : Nat} (ha : a < 5) {V : Nat → Int32} (h : qv_tz 25 V) : qv_tz 25 (qv_po a q V) := qv_it_inv _ (qv_tz 25) 5 V h (fun b V' hb h' => qv_pst_tz ha hb h')
theorem qv_str_tz (M : Nat → Int32) : qv_tz 25 (qv_str M) := by
  refine qv_it_inv _ (qv_tz 25) 5 _ (fun k hk => if_neg (by omega)) (fun q V _ h => ?_)
  refine qv_it_inv _ (qv_tz 25) 5 V h (fun a V' ha h' => ?_)
  unfold qv_f48
  split
  · exact h'
  · exact qv_po_tz ha h'
theorem qv_clo_tz {V : Nat → Int32} (h : qv_tz 5 V) : qv_tz 5 (qv_clo V) := by
  refine qv_it_inv _ (qv_tz 5) 5 V h (fun q V' _ h' => ?_)
  refine qv_it_inv _ (qv_tz 5) 5 V' h' (fun a V'' ha h'' => ?_)
  unfold qv_clst
  split
  · exact h''
  · exact qv_tz_upd h'' ha
section
variable {c cd cc : Int32} {a1 a2 a3 a4 a5 a6 a7 a8 a9 a10 a11 a12 a13 a14 a15 a16 a17 : Nat → Int32}
theorem qv_passOver {post : St2 → Prop} {a q : Nat} (ha : a < 5) (hq : q < 5) (H : post (c, cd, cc, a1, a2, a3, a4, a5, a6, a7, qv_po a q a8, a9, a10, a11, a12, a13, a14, a15, a16, a17)) : wpX_passOver post (c, cd, cc, a1, a2, a3, a4, a5, a6, a7, a8, a9, a10, a11, a12, a13, a14, a15, a16, a17) (nI a) (nI q) := by
  unfold qv_po at H
  refine qv_fo (fun n z V => wX_passOver_2 post (nI a) (nI q) c cd cc n z a1 a2 a3 a4 a5 a6 a7 V a9 a10 a11 a12 a13 a14 a15 a16 a17) (qv_pst a q) 5 a8 ?_ (fun n => br_t (nI_le (a := 5) (Nat.le_refl _) (by omega)) H)
  intro n b V hb hw
  unfold qv_pst at hw
  have key : ∀ z0, b ≠ a → b ≠ q → z0 = qv_pz V a q b → wX_passOver_66 post (wX_passOver_2 post (nI a) (nI q) c cd cc n) (nI a) (nI q) (nI b) z0 c cd cc a1 a2 a3 a4 a5 a6 a7 V a9 a10 a11 a12 a13 a14 a15 a16 a17 := by
    intro z0 h1 h2 hz
    rw [if_neg h1, if_neg h2] at hw
    unfold wX_passOver_66
    rw [qv_ixc (by omega) (by omega), hz]
    refine ⟨pk_in (5 * a + b) 25 (by omega) (qv_ix a b), br_c (fun z => nm_r (nI_1 b) ?_) (fun z => ⟨pk_in (5 * a + b) 25 (by omega) (qv_ix a b), nm_e (nm_r (nI_1 b) ?_)⟩)⟩
    · rw [if_pos z] at hw; exact hw
    · rw [if_neg z] at hw; exact hw
  refine br_f (nI_ge (b := 5) hb (by decide)) (pk_eq b a (fun e => nm_r (nI_1 b) ?_) (fun e => pk_eq b q (fun e' => nm_r (nI_1 b) ?_) (fun e' => ⟨pk_in (5 * a + q) 25 (by omega) (qv_ix a q), pk_in (5 * q + b) 25 (by omega) (qv_ix q b), ?_⟩)))
  · rw [if_pos e] at hw; exact hw
  · rw [if_neg e, if_pos e'] at hw; exact hw
  · rw [qv_ixc (i := q) (k := b) (by omega) (by omega), qv_ixc (i := a) (k := q) (by omega) (by omega)]
    refine br_c (fun z => ⟨pk_in (5 * q + b) 25 (by omega) (qv_ix q b), key _ e e' ?_⟩) (fun z => ⟨pk_in (5 * a + q) 25 (by omega) (qv_ix a q), key _ e e' ?_⟩)
    · unfold qv_pz; rw [if_pos z]
    · unfold qv_pz; rw [if_neg z]
theorem qv_strengths {post : St2 → Prop} (h8 : qv_tz 25 a8) (H : post (c, cd, cc, a1, a2, a3, a4, a5, a6, a7, qv_str a4, a9, a10, a11, a12, a13, a14, a15, a16, a17)) : wpX_findStrengths post (c, cd, cc, a1, a2, a3, a4, a5, a6, a7, a8, a9, a10, a11, a12, a13, a14, a15, a16, a17) := by
  unfold qv_str at H
  refine qv_up (fun n z s => wX_findStrengths_2 post c cd cc n z a1 a2 a3 a4 a5 a6 a7 s a9 a10 a11 a12 a13 a14 a15 a16 a17) (fun i s => (∀ k, k < i → s k = qv_V0 a4 k) ∧ qv_tz 25 s) 0 25 a8 (by omega) ⟨fun k hk => absurd hk (by omega), h8⟩ ?_ ?_
  · intro n i s _ hi ⟨i1, i2⟩ hw
    refine br_f (nI_ge (b := 25) hi (by decide)) ⟨pk_in i 25 hi, ?_⟩
    rw [nI_clamp (show i < 2 ^ 31 by omega)]
    have G : ∀ x, x = qv_V0 a4 i → wX_findStrengths_2 post c cd cc n (nI (i + 1)) a1 a2 a3 a4 a5 a6 a7 (upd s i x) a9 a10 a11 a12 a13 a14 a15 a16 a17 := fun x hx => hw _ ⟨qv_fill rfl i1 hx, qv_tz_upd i2 hi⟩
    refine br_c (fun z => ⟨pk_in i 25 hi, nm_e (nm_r (nI_1 i) (G _ ?_))⟩) (fun z => ⟨pk_in i 25 hi, pk_in i 25 hi, nm_e (nm_r (nI_1 i) (G _ ?_))⟩)
    · unfold qv_V0; rw [if_pos hi, if_pos z]
    · unfold qv_V0; rw [if_pos hi, if_neg z]
  · intro n s ⟨i1, i2⟩
    have e : s = qv_V0 a4 := qv_ext i2 (fun k hk => if_neg (by omega)) i1
    subst e
    refine br_t (nI_le (a := 25) (Nat.le_refl _) (by omega)) ?_
    refine qv_fo (fun n z V => wX_findStrengths_41 post n z c cd cc a1 a2 a3 a4 a5 a6 a7 V a9 a10 a11 a12 a13 a14 a15 a16 a17) qv_f41 5 (qv_V0 a4) ?_ (fun n => br_t (nI_le (a := 5) (Nat.le_refl _) (by omega)) H)
    intro n q V hq hw
    unfold qv_f41 at hw
    refine br_f (nI_ge (b := 5) hq (by decide)) ?_
    refine qv_fo (fun n' z V => wX_findStrengths_48 post (wX_findStrengths_41 post n) (nI q) n' z c cd cc a1 a2 a3 a4 a5 a6 a7 V a9 a10 a11 a12 a13 a14 a15 a16 a17) (qv_f48 q) 5 V ?_ (fun n' => br_t (nI_le (a := 5) (Nat.le_refl _) (by omega)) (nm_r (nI_1 q) hw))
    intro n' a V' ha hw'
    unfold qv_f48 at hw'
    refine br_f (nI_ge (b := 5) ha (by decide)) (pk_eq a q (fun e => nm_r (nI_1 a) ?_) (fun e => qv_passOver ha hq (nm_r (nI_1 a) ?_)))
    · rw [if_pos e] at hw'; exact hw'
    · rw [if_neg e] at hw'; exact hw'
theorem qv_bs8 {post : Int32 → St2 → Prop} (H : post (qv_it (qv_bsst a8) 5 0) (c, cd, cc, a1, a2, a3, a4, a5, a6, a7, a8, a9, a10, a11, a12, a13, a14, a15, a16, a17)) : ∃ n, wX_byStrength_8 post c cd cc a1 a2 a3 a4 a5 a6 a7 a8 a9 a10 a11 a12 a13 a14 a15 a16 a17 n 0 0 := by
  refine qv_fo (fun n z x => wX_byStrength_8 post c cd cc a1 a2 a3 a4 a5 a6 a7 a8 a9 a10 a11 a12 a13 a14 a15 a16 a17 n x z) (qv_bsst (a8)) 5 0 ?_ (fun n => br_t (nI_le (a := 5) (Nat.le_refl _) (by omega)) H)
  intro n a x ha hw
  unfold qv_bsst at hw
  refine br_f (nI_ge (b := 5) ha (by decide)) ?_
  refine qv_all (fun n' x3 z => wX_byStrength_18 post (wX_byStrength_8 post c cd cc a1 a2 a3 a4 a5 a6 a7 a8 a9 a10 a11 a12 a13 a14 a15 a16 a17 n) x (nI a) c cd cc a1 a2 a3 a4 a5 a6 a7 a8 a9 a10 a11 a12 a13 a14 a15 a16 a17 n' x3 z) (fun x3 => wX_byStrength_65 post (wX_byStrength_8 post c cd cc a1 a2 a3 a4 a5 a6 a7 a8 a9 a10 a11 a12 a13 a14 a15 a16 a17 n) x (nI a) x3 c cd cc a1 a2 a3 a4 a5 a6 a7 a8 a9 a10 a11 a12 a13 a14 a15 a16 a17) (fun b => !decide (a8 (5 * a + b) < a8 (5 * b + a))) 5 ?_ ?_ ?_ ?_
  · intro n' x3 hK
    exact br_t (nI_le (a := 5) (Nat.le_refl _) (by omega)) hK
  · intro n' i hi hK
    exact br_f (nI_ge (b := 5) hi (by decide)) (br_t rfl hK)
  · intro n' b hb hW
    refine br_f (nI_ge (b := 5) hb (by decide)) (br_f (by decide) ⟨pk_in (5 * a + b) 25 (by omega) (qv_ix a b), pk_in (5 * b + a) 25 (by omega) (qv_ix b a), ?_⟩)
    rw [qv_ixc (i := a) (k := b) (by omega) (by omega), qv_ixc (i := b) (k := a) (by omega) (by omega)]
    refine br_c (fun z => nm_r (nI_1 b) ?_) (fun z => nm_r (nI_1 b) ?_)
    · rw [decide_eq_true z] at hW; exact hW
    · rw [decide_eq_false z] at hW; exact hW
  · show wX_byStrength_65 post _ x (nI a) (qv_oI (qv_sw (a8) a)) c cd cc a1 a2 a3 a4 a5 a6 a7 a8 a9 a10 a11 a12 a13 a14 a15 a16 a17
    unfold wX_byStrength_65
    cases t : qv_sw (a8) a with
    | false =>
      rw [if_neg (by rw [t]; decide)] at hw
      exact br_t rfl (nm_r (nI_1 a) hw)
    | true =>
      rw [if_pos t] at hw
      exact br_f (by decide) (nm_e (nm_r (nI_1 a) hw))
theorem qv_byStrength {post : Int32 → St2 → Prop} {M : Nat → Int32} (e4 : a4 = M) (h8 : qv_tz 25 a8) (H : ∀ b8, qv_tz 25 b8 → post (qv_bs M) (c, cd, cc, a1, a2, a3, a4, a5, a6, a7, b8, a9, a10, a11, a12, a13, a14, a15, a16, a17)) : wpX_byStrength post (c, cd, cc, a1, a2, a3, a4, a5, a6, a7, a8, a9, a10, a11, a12, a13, a14, a15, a16, a17) := by
  subst e4
  unfold wpX_byStrength
  dsimp only
  have H := H _ (qv_str_tz a4)
  refine qv_strengths h8 ?_
  unfold qv_bs at H
  generalize qv_str a4 = V at H ⊢
  dsimp only
  exact qv_bs8 H
theorem qv_close {post : St2 → Prop} (H : post (c, cd, cc, a1, a2, a3, a4, a5, a6, a7, a8, qv_clo a9, a10, a11, a12, a13, a14, a15, a16, a17)) : wpX_closeReaches post (c, cd, cc, a1, a2, a3, a4, a5, a6, a7, a8, a9, a10, a11, a12, a13, a14, a15, a16, a17) := by
  unfold qv_clo at H
  refine qv_fo (fun n z V => wX_closeReaches_2 post c cd cc n z a1 a2 a3 a4 a5 a6 a7 a8 V a10 a11 a12 a13 a14 a15 a16 a17) (fun q V => qv_it (qv_clst q) 5 V) 5 a9 ?_ (fun n => br_t (nI_le (a := 5) (Nat.le_refl _) (by omega)) H)
  intro n q V hq hw
  refine br_f (nI_ge (b := 5) hq (by decide)) ?_
  refine qv_fo (fun n' z V => wX_closeReaches_9 post (wX_closeReaches_2 post c cd cc n) (nI q) c cd cc n' z a1 a2 a3 a4 a5 a6 a7 a8 V a10 a11 a12 a13 a14 a15 a16 a17) (qv_clst q) 5 V ?_ (fun n' => br_t (nI_le (a := 5) (Nat.le_refl _) (by omega)) (nm_r (nI_1 q) hw))
  intro n' a V' ha hw'
  unfold qv_clst at hw'
  refine br_f (nI_ge (b := 5) ha (by decide)) ⟨pk_in a 5 ha, ?_⟩
  rw [nI_clamp (show a < 2 ^ 31 by omega), nI_clamp (show q < 2 ^ 31 by omega)]
  refine qv_isIn (fun z => nm_r (nI_1 a) ?_) (fun z => ⟨pk_in a 5 ha, pk_in q 5 hq, pk_in a 5 ha, nm_e (nm_r (nI_1 a) ?_)⟩)
  · rw [if_pos z] at hw'; exact hw'
  · rw [if_neg z] at hw'; exact hw'
theorem qv_ur33 {post : Int32 → St2 → Prop} (H : post (qv_it (qv_urst a9) 5 0) (c, cd, cc, a1, a2, a3, a4, a5, a6, a7, a8, a9, a10, a11, a12, a13, a14, a15, a16, a17)) : ∃ n, wX_unreturned_33 post c cd cc a1 a2 a3 a4 a5 a6 a7 a8 a9 a10 a11 a12 a13 a14 a15 a16 a17 n 0 0 := by
  refine qv_fo (fun n z x => wX_unreturned_33 post c cd cc a1 a2 a3 a4 a5 a6 a7 a8 a9 a10 a11 a12 a13 a14 a15 a16 a17 n x z) (qv_urst a9) 5 0 ?_ (fun n => br_t (nI_le (a := 5) (Nat.le_refl _) (by omega)) H)
  intro n a x ha hw
  unfold qv_urst at hw
  refine br_f (nI_ge (b := 5) ha (by decide)) ?_
  refine qv_all (fun n' x3 z => wX_unreturned_43 post (wX_unreturned_33 post c cd cc a1 a2 a3 a4 a5 a6 a7 a8 a9 a10 a11 a12 a13 a14 a15 a16 a17 n) x (nI a) c cd cc a1 a2 a3 a4 a5 a6 a7 a8 a9 a10 a11 a12 a13 a14 a15 a16 a17 n' x3 z) (fun x3 => wX_unreturned_95 post (wX_unreturned_33 post c cd cc a1 a2 a3 a4 a5 a6 a7 a8 a9 a10 a11 a12 a13 a14 a15 a16 a17 n) x (nI a) x3 c cd cc a1 a2 a3 a4 a5 a6 a7 a8 a9 a10 a11 a12 a13 a14 a15 a16 a17) (fun b => decide (qv_b (a9 b) (nI a) = 0) || !decide (qv_b (a9 a) (nI b) = 0)) 5 ?_ ?_ ?_ ?_
  · intro n' x3 hK
    exact br_t (nI_le (a := 5) (Nat.le_refl _) (by omega)) hK
  · intro n' i hi hK
    exact br_f (nI_ge (b := 5) hi (by decide)) (br_t rfl hK)
  · intro n' b hb hW
    refine br_f (nI_ge (b := 5) hb (by decide)) (br_f (by decide) ⟨pk_in b 5 hb, ?_⟩)
    rw [nI_clamp (show b < 2 ^ 31 by omega), nI_clamp (show a < 2 ^ 31 by omega)]
    refine qv_isIn (fun z => nm_r (nI_1 b) ?_) (fun z => ⟨pk_in a 5 ha, qv_isIn (fun z2 => nm_r (nI_1 b) ?_) (fun z2 => nm_r (nI_1 b) ?_)⟩)
    · rw [decide_eq_true z] at hW; exact hW
    · rw [decide_eq_false z, decide_eq_true z2] at hW; exact hW
    · rw [decide_eq_false z, decide_eq_false z2] at hW; exact hW
  · show wX_unreturned_95 post _ x (nI a) (qv_oI (qv_uw a9 a)) c cd cc a1 a2 a3 a4 a5 a6 a7 a8 a9 a10 a11 a12 a13 a14 a15 a16 a17
    unfold wX_unreturned_95
    cases t : qv_uw a9 a with
    | false =>
      rw [if_neg (by rw [t]; decide)] at hw
      exact br_t rfl (nm_r (nI_1 a) hw)
    | true =>
      rw [if_pos t] at hw
      exact br_f (by decide) (nm_e (nm_r (nI_1 a) hw))
theorem qv_unret {post : Int32 → St2 → Prop} {B : Nat → Int32} (e5 : a5 = B) (h9 : qv_tz 5 a9) (H : ∀ b9, qv_tz 5 b9 → post (qv_ur B) (c, cd, cc, a1, a2, a3, a4, a5, a6, a7, a8, b9, a10, a11, a12, a13, a14, a15, a16, a17)) : wpX_unreturned post (c, cd, cc, a1, a2, a3, a4, a5, a6, a7, a8, a9, a10, a11, a12, a13, a14, a15, a16, a17) := by
  subst e5
  have H := H _ (qv_clo_tz (V := qv_R0 a5) (fun k hk => if_neg (by omega)))
  refine qv_up (fun n z s => wX_unreturned_2 post c cd cc n z a1 a2 a3 a4 a5 a6 a7 a8 s a10 a11 a12 a13 a14 a15 a16 a17) (fun i s => (∀ k, k < i → s k = qv_R0 a5 k) ∧ qv_tz 5 s) 0 5 a9 (by omega) ⟨fun k hk => absurd hk (by omega), h9⟩ ?_ ?_
  · intro n i s _ hi ⟨i1, i2⟩ hw
    refine br_f (nI_ge (b := 5) hi (by decide)) ⟨pk_in i 5 hi, pk_in i 5 hi, ?_⟩
    rw [nI_clamp (show i < 2 ^ 31 by omega)]
    refine nm_e (nm_r (nI_1 i) (hw _ ⟨qv_fill rfl i1 ?_, qv_tz_upd i2 hi⟩))
    unfold qv_R0; rw [if_pos hi]
  · intro n s ⟨i1, i2⟩
    have e : s = qv_R0 a5 := qv_ext i2 (fun k hk => if_neg (by omega)) i1
    subst e
    refine br_t (nI_le (a := 5) (Nat.le_refl _) (by omega)) (qv_close ?_)
    unfold qv_ur at H
    generalize qv_clo (qv_R0 a5) = V at H ⊢
    dsimp only
    exact qv_ur33 H
end
end
section
/-! sets: rules 11, 13, 14; the leader -/
def qv_sp (K : (Nat → Bool) → Nat) (s q : Nat) : Bool := !(s.testBit q) || decide (qv_Bn K q 5 ||| s = 31)
def qv_sst (K : (Nat → Bool) → Nat) (s best : Nat) : Nat := if qv_pc 10 s < qv_pc 10 best then (if qv_allb (qv_sp K s) 5 = true then s else best) else best
def qv_ssm (K : (Nat → Bool) → Nat) : Nat := qv_it (fun j b => qv_sst K (j + 1) b) 30 31
def qv_up2 (K : (Nat → Bool) → Nat) (a b : Nat) : Bool := !((qv_Bn K b 5).testBit a) || !decide (qv_Bn K a 5 ||| qv_Bn K b 5 = qv_Bn K b 5)
def qv_unc (K : (Nat → Bool) → Nat) : Nat := qv_mk (fun a => qv_allb (qv_up2 K a) 5) 5
def qv_frst (K : (Nat → Bool) → Nat) (s q : Nat) (t : Int32 × Int32) : Int32 × Int32 :=
  if s.testBit q = true then (t.1 ||| ((1 : Int32) <<< (nI (qv_pc 10 (qv_Bn K q 5 &&& s)) &&& 31)), if nI (qv_pc 10 (qv_Bn K q 5 &&& s)) = nI (qv_pc 10 s) - 1 then nI q else t.2) else t
def qv_fr (K : (Nat → Bool) → Nat) (s : Nat) : Int32 :=
  if (qv_it (qv_frst K s) 5 (0, -1)).1 = ((1 : Int32) <<< (nI (qv_pc 10 s) &&& 31)) - 1 then (qv_it (qv_frst K s) 5 (0, -1)).2 else -1
def qv_cfp (K : (Nat → Bool) → Nat) (s q : Nat) : Bool := s.testBit q || !decide (nI s &&& (qv_B K q ^^^ (-1)) = 0)
def qv_cfst (K : (Nat → Bool) → Nat) (s : Nat) (x : Int32) : Int32 := if 0 ≤ qv_fr K s then (if qv_allb (qv_cfp K s) 5 = true then x ||| ((1 : Int32) <<< (qv_fr K s &&& 31)) else x) else x
def qv_cf (K : (Nat → Bool) → Nat) : Int32 := qv_it (fun j x => qv_cfst K (j + 1) x) 31 0
def qv_ld (K : (Nat → Bool) → Nat) (q : Nat) : Bool := decide (qv_Bn K q 5 ||| 2 ^ q = 31)
theorem qv_sub_tab : ∀ x, x < 32 → ∀ y, y < 32 → (nI x &&& (nI y ^^^ (-1)) = 0 ↔ x ||| y = y) := by decide +kernel
theorem qv_sst_lt {K : (Nat → Bool) → Nat} {s best : Nat} (hs : s < 32) (hb : best < 32) : qv_sst K s best < 32 := by
  unfold qv_sst
  split
  · split
    · exact hs
    · exact hb
  · exact hb
section
variable {c cd cc : Int32} {a1 a2 a3 a4 a5 a6 a7 a8 a9 a10 a11 a12 a13 a14 a15 a16 a17 : Nat → Int32}
theorem qv_smallest {post : Int32 → Prop} {K : (Nat → Bool) → Nat} (e5 : a5 = qv_B K) (H : post (nI (qv_ssm K))) : wpX_smallestSet post (c, cd, cc, a1, a2, a3, a4, a5, a6, a7, a8, a9, a10, a11, a12, a13, a14, a15, a16, a17) := by
  unfold qv_ssm at H
  subst e5
  refine qv_up (fun n z x => wX_smallestSet_5 post c cd cc a1 a2 a3 a4 (qv_B K) a6 a7 a8 a9 a10 a11 a12 a13 a14 a15 a16 a17 n x z) (fun s x => x = nI (qv_it (fun j b => qv_sst K (j + 1) b) (s - 1) 31)) 1 31 31 (by omega) rfl ?_ ?_
  · intro n s x hs1 hs hx hw
    have hbest : qv_it (fun j b => qv_sst K (j + 1) b) (s - 1) 31 < 32 := qv_it_inv _ (fun b => b < 32) _ _ (by omega) (fun j b hj hb => qv_sst_lt (by omega) hb)
    have hw2 : ∀ x', x' = nI (qv_sst K s (qv_it (fun j b => qv_sst K (j + 1) b) (s - 1) 31)) → wX_smallestSet_5 post c cd cc a1 a2 a3 a4 (qv_B K) a6 a7 a8 a9 a10 a11 a12 a13 a14 a15 a16 a17 n x' (nI (s + 1)) := by
      intro x' hx'
      refine hw x' ?_
      rw [hx', show s + 1 - 1 = (s - 1) + 1 by omega]
      show nI (qv_sst K s _) = nI (qv_sst K (s - 1 + 1) _)
      rw [show s - 1 + 1 = s by omega]
    generalize qv_it (fun j b => qv_sst K (j + 1) b) (s - 1) 31 = best at hx hbest hw2
    subst hx
    have W0 : ∀ n' x3, wX_smallestSet_79 post (wX_smallestSet_5 post c cd cc a1 a2 a3 a4 (qv_B K) a6 a7 a8 a9 a10 a11 a12 a13 a14 a15 a16 a17 n) (nI best) (nI s) x3 c cd cc a1 a2 a3 a4 (qv_B K) a6 a7 a8 a9 a10 a11 a12 a13 a14 a15 a16 a17 → wX_smallestSet_33 post (wX_smallestSet_5 post c cd cc a1 a2 a3 a4 (qv_B K) a6 a7 a8 a9 a10 a11 a12 a13 a14 a15 a16 a17 n) (nI best) (nI s) c cd cc a1 a2 a3 a4 (qv_B K) a6 a7 a8 a9 a10 a11 a12 a13 a14 a15 a16 a17 (n' + 1) x3 (nI 5) :=
      fun n' x3 hK => br_t (nI_le (a := 5) (Nat.le_refl _) (by omega)) hK
    have W1 : ∀ n' i, i < 5 → wX_smallestSet_79 post (wX_smallestSet_5 post c cd cc a1 a2 a3 a4 (qv_B K) a6 a7 a8 a9 a10 a11 a12 a13 a14 a15 a16 a17 n) (nI best) (nI s) 0 c cd cc a1 a2 a3 a4 (qv_B K) a6 a7 a8 a9 a10 a11 a12 a13 a14 a15 a16 a17 → wX_smallestSet_33 post (wX_smallestSet_5 post c cd cc a1 a2 a3 a4 (qv_B K) a6 a7 a8 a9 a10 a11 a12 a13 a14 a15 a16 a17 n) (nI best) (nI s) c cd cc a1 a2 a3 a4 (qv_B K) a6 a7 a8 a9 a10 a11 a12 a13 a14 a15 a16 a17 (n' + 1) 0 (nI i) :=
      fun n' i hi hK => br_f (nI_ge (b := 5) hi (by decide)) (br_t rfl hK)
    refine br_f (nI_ge (b := 31) hs (by decide)) (qv_ones (by omega) (qv_ones (by omega) (pk_le (qv_pc 10 best) (qv_pc 10 s) (fun z => ⟨1, W1 0 0 (by omega) ?_⟩) (fun z => ?_) (ha := ?_) (hb := ?_))))
    · refine br_t rfl (nm_r (nI_1 s) (hw2 _ ?_))
      unfold qv_sst
      rw [if_neg (by omega)]
    · refine qv_all (fun n' x3 z => wX_smallestSet_33 post (wX_smallestSet_5 post c cd cc a1 a2 a3 a4 (qv_B K) a6 a7 a8 a9 a10 a11 a12 a13 a14 a15 a16 a17 n) (nI best) (nI s) c cd cc a1 a2 a3 a4 (qv_B K) a6 a7 a8 a9 a10 a11 a12 a13 a14 a15 a16 a17 n' x3 z) (fun x3 => wX_smallestSet_79 post (wX_smallestSet_5 post c cd cc a1 a2 a3 a4 (qv_B K) a6 a7 a8 a9 a10 a11 a12 a13 a14 a15 a16 a17 n) (nI best) (nI s) x3 c cd cc a1 a2 a3 a4 (qv_B K) a6 a7 a8 a9 a10 a11 a12 a13 a14 a15 a16 a17) (qv_sp K s) 5 W0 W1 ?_ ?_
      · intro n' q hq hW
        refine br_f (nI_ge (b := 5) hq (by decide)) (br_f (by decide) (qv_isInN (by omega) (by omega) (fun t => nm_r (nI_1 q) ?_) (fun t => ⟨pk_in q 5 hq, ?_⟩)))
        · unfold qv_sp at hW
          rw [t] at hW
          exact hW
        · rw [nI_clamp (show q < 2 ^ 31 by omega), qv_B_at K hq, qv_nor]
          have hl : qv_Bn K q 5 ||| s < 2 ^ 5 := Nat.or_lt_two_pow (qv_Bn_lt K q) (by omega)
          unfold qv_sp at hW
          rw [t] at hW
          refine pk_eq (qv_Bn K q 5 ||| s) 31 (fun e => nm_r (nI_1 q) ?_) (fun e => nm_r (nI_1 q) ?_)
          · rw [decide_eq_true e] at hW; exact hW
          · rw [decide_eq_false e] at hW; exact hW
      · show (qv_oI (qv_allb (qv_sp K s) 5) = 0 → _) ∧ (¬ qv_oI (qv_allb (qv_sp K s) 5) = 0 → _)
        cases t : qv_allb (qv_sp K s) 5 with
        | false =>
          refine br_t rfl (nm_r (nI_1 s) (hw2 _ ?_))
          unfold qv_sst
          rw [if_pos z, if_neg (by rw [t]; decide)]
        | true =>
          refine br_f (by decide) (nm_r (nI_1 s) (hw2 _ ?_))
          unfold qv_sst
          rw [if_pos z, if_pos t]
    · have := qv_pc_le 10 best; omega
    · have := qv_pc_le 10 s; omega
  · intro n x hx
    subst hx
    exact br_t (nI_le (a := 31) (Nat.le_refl _) (by omega)) H
theorem qv_uncovered {post : Int32 → Prop} {K : (Nat → Bool) → Nat} (e5 : a5 = qv_B K) (H : post (nI (qv_unc K))) : wpX_uncovered post (c, cd, cc, a1, a2, a3, a4, a5, a6, a7, a8, a9, a10, a11, a12, a13, a14, a15, a16, a17) := by
  unfold qv_unc at H
  subst e5
  refine qv_up (fun n z x => wX_uncovered_4 post c cd cc a1 a2 a3 a4 (qv_B K) a6 a7 a8 a9 a10 a11 a12 a13 a14 a15 a16 a17 n x z) (fun a x => x = nI (qv_mk (fun a => qv_allb (qv_up2 K a) 5) a)) 0 5 0 (by omega) rfl ?_ ?_
  · intro n a x _ ha hx hw
    subst hx
    refine br_f (nI_ge (b := 5) ha (by decide)) ?_
    refine qv_all (fun n' x3 z => wX_uncovered_14 post (wX_uncovered_4 post c cd cc a1 a2 a3 a4 (qv_B K) a6 a7 a8 a9 a10 a11 a12 a13 a14 a15 a16 a17 n) (nI (qv_mk (fun a => qv_allb (qv_up2 K a) 5) a)) (nI a) c cd cc a1 a2 a3 a4 (qv_B K) a6 a7 a8 a9 a10 a11 a12 a13 a14 a15 a16 a17 n' x3 z) (fun x3 => wX_uncovered_70 post (wX_uncovered_4 post c cd cc a1 a2 a3 a4 (qv_B K) a6 a7 a8 a9 a10 a11 a12 a13 a14 a15 a16 a17 n) (nI (qv_mk (fun a => qv_allb (qv_up2 K a) 5) a)) (nI a) x3 c cd cc a1 a2 a3 a4 (qv_B K) a6 a7 a8 a9 a10 a11 a12 a13 a14 a15 a16 a17) (qv_up2 K a) 5 ?_ ?_ ?_ ?_
    · intro n' x3 hK
      exact br_t (nI_le (a := 5) (Nat.le_refl _) (by omega)) hK
    · intro n' i hi hK
      exact br_f (nI_ge (b := 5) hi (by decide)) (br_t rfl hK)
    · intro n' b hb hW
      have l1 := qv_Bn_lt K a
      have l2 := qv_Bn_lt K b
      unfold qv_up2 at hW
      refine br_f (nI_ge (b := 5) hb (by decide)) (br_f (by decide) ⟨pk_in b 5 hb, ?_⟩)
      rw [nI_clamp (show b < 2 ^ 31 by omega), nI_clamp (show a < 2 ^ 31 by omega), qv_B_at K hb, qv_B_at K ha]
      refine qv_isInN (by omega) (by omega) (fun t => nm_r (nI_1 b) ?_) (fun t => ⟨pk_in a 5 ha, pk_in b 5 hb, ek_if (qv_sub_tab _ l1 _ l2) (fun e => nm_r (nI_1 b) ?_) (fun e => nm_r (nI_1 b) ?_)⟩)
      · rw [t] at hW; exact hW
      · rw [t, decide_eq_true e] at hW; exact hW
      · rw [t, decide_eq_false e] at hW; exact hW
    · show (qv_oI (qv_allb (qv_up2 K a) 5) = 0 → _) ∧ (¬ qv_oI (qv_allb (qv_up2 K a) 5) = 0 → _)
      cases t : qv_allb (qv_up2 K a) 5 with
      | false =>
        refine br_t rfl (nm_r (nI_1 a) (hw _ ?_))
        show nI (qv_mk _ a) = nI (qv_mk _ a ||| (if qv_allb (qv_up2 K a) 5 = true then 2 ^ a else 0))
        rw [if_neg (by rw [t]; decide), Nat.or_zero]
      | true =>
        refine br_f (by decide) (nm_e (nm_r (nI_1 a) (hw _ ?_)))
        show _ = nI (qv_mk _ a ||| (if qv_allb (qv_up2 K a) 5 = true then 2 ^ a else 0))
        rw [if_pos t, qv_sh1 a (by omega), qv_nor]
  · intro n x hx
    subst hx
    exact br_t (nI_le (a := 5) (Nat.le_refl _) (by omega)) H
theorem qv_frontOf {post : Int32 → Prop} {K : (Nat → Bool) → Nat} {s : Nat} (hs : s < 32) (e5 : a5 = qv_B K) (H : post (qv_fr K s)) : wpX_frontOf post (c, cd, cc, a1, a2, a3, a4, a5, a6, a7, a8, a9, a10, a11, a12, a13, a14, a15, a16, a17) (nI s) := by
  subst e5
  unfold wpX_frontOf
  dsimp only
  refine qv_ones (by omega) ?_
  refine qv_fo (σ := Int32 × Int32) (fun n z t => wX_frontOf_14 post (nI s) (nI (qv_pc 10 s)) c cd cc a1 a2 a3 a4 (qv_B K) a6 a7 a8 a9 a10 a11 a12 a13 a14 a15 a16 a17 n t.1 t.2 z) (qv_frst K s) 5 (0, -1) ?_ ?_
  · intro n q t hq hw
    unfold qv_frst at hw
    refine br_f (nI_ge (b := 5) hq (by decide)) (qv_isInN (by omega) (by omega) (fun z => nm_r (nI_1 q) ?_) (fun z => ⟨pk_in q 5 hq, ?_⟩))
    · rw [if_neg (by rw [z]; decide)] at hw; exact hw
    · rw [if_pos z] at hw
      rw [nI_clamp (show q < 2 ^ 31 by omega), qv_B_at K hq, qv_nand]
      have hl : qv_Bn K q 5 &&& s < 32 := Nat.lt_of_le_of_lt Nat.and_le_right hs
      refine qv_ones (by omega) (nm_e (br_c (fun e => nm_r (nI_1 q) ?_) (fun e => nm_r (nI_1 q) ?_)))
      · rw [if_pos e] at hw; exact hw
      · rw [if_neg e] at hw; exact hw
  · intro n
    unfold qv_fr at H
    refine br_t (nI_le (a := 5) (Nat.le_refl _) (by omega)) (br_c (fun e => ?_) (fun e => ?_))
    · rw [if_pos e] at H; exact H
    · rw [if_neg e] at H; exact H
theorem qv_chain {post : Int32 → Prop} {K : (Nat → Bool) → Nat} (e5 : a5 = qv_B K) (H : post (qv_cf K)) : wpX_chainFronts post (c, cd, cc, a1, a2, a3, a4, a5, a6, a7, a8, a9, a10, a11, a12, a13, a14, a15, a16, a17) := by
  unfold qv_cf at H
  subst e5
  refine qv_up (fun n z x => wX_chainFronts_4 post c cd cc a1 a2 a3 a4 (qv_B K) a6 a7 a8 a9 a10 a11 a12 a13 a14 a15 a16 a17 n x z) (fun s x => x = qv_it (fun j x => qv_cfst K (j + 1) x) (s - 1) 0) 1 32 0 (by omega) rfl ?_ ?_
  · intro n s x hs1 hs hx hw
    have hw2 : ∀ x', x' = qv_cfst K s x → wX_chainFronts_4 post c cd cc a1 a2 a3 a4 (qv_B K) a6 a7 a8 a9 a10 a11 a12 a13 a14 a15 a16 a17 n x' (nI (s + 1)) := by
      intro x' hx'
      refine hw x' ?_
      rw [hx', show s + 1 - 1 = (s - 1) + 1 by omega, hx]
      show qv_cfst K s _ = qv_cfst K (s - 1 + 1) _
      rw [show s - 1 + 1 = s by omega]
    refine br_f (nI_nlt (a := 31) (by omega) (by omega)) (qv_frontOf (K := K) (by omega) rfl (br_c (fun z => ?_) (fun z => nm_r (nI_1 s) (hw2 _ ?_))))
    · refine qv_all (fun n' x3 z => wX_chainFronts_29 post (wX_chainFronts_4 post c cd cc a1 a2 a3 a4 (qv_B K) a6 a7 a8 a9 a10 a11 a12 a13 a14 a15 a16 a17 n) x (nI s) (qv_fr K s) c cd cc a1 a2 a3 a4 (qv_B K) a6 a7 a8 a9 a10 a11 a12 a13 a14 a15 a16 a17 n' x3 z) (fun x3 => wX_chainFronts_77 post (wX_chainFronts_4 post c cd cc a1 a2 a3 a4 (qv_B K) a6 a7 a8 a9 a10 a11 a12 a13 a14 a15 a16 a17 n) x (nI s) (qv_fr K s) x3 c cd cc a1 a2 a3 a4 (qv_B K) a6 a7 a8 a9 a10 a11 a12 a13 a14 a15 a16 a17) (qv_cfp K s) 5 ?_ ?_ ?_ ?_
      · intro n' x3 hK
        exact br_t (nI_le (a := 5) (Nat.le_refl _) (by omega)) hK
      · intro n' i hi hK
        exact br_f (nI_ge (b := 5) hi (by decide)) (br_t rfl hK)
      · intro n' q hq hW
        unfold qv_cfp at hW
        refine br_f (nI_ge (b := 5) hq (by decide)) (br_f (by decide) (qv_isInN (by omega) (by omega) (fun t => ⟨pk_in q 5 hq, ?_⟩) (fun t => nm_r (nI_1 q) ?_)))
        · rw [nI_clamp (show q < 2 ^ 31 by omega)]
          rw [t] at hW
          refine br_c (fun e => nm_r (nI_1 q) ?_) (fun e => nm_r (nI_1 q) ?_)
          · rw [decide_eq_true e] at hW; exact hW
          · rw [decide_eq_false e] at hW; exact hW
        · rw [t] at hW; exact hW
      · show (qv_oI (qv_allb (qv_cfp K s) 5) = 0 → _) ∧ (¬ qv_oI (qv_allb (qv_cfp K s) 5) = 0 → _)
        cases t : qv_allb (qv_cfp K s) 5 with
        | false =>
          refine br_t rfl (nm_r (nI_1 s) (hw2 _ ?_))
          unfold qv_cfst
          rw [if_pos z, if_neg (by rw [t]; decide)]
        | true =>
          refine br_f (by decide) (nm_e (nm_r (nI_1 s) (hw2 _ ?_)))
          unfold qv_cfst
          rw [if_pos z, if_pos t]
    · unfold qv_cfst
      rw [if_neg z]
  · intro n x hx
    subst hx
    exact br_t (nI_lt (a := 31) (by omega) (by omega)) H
theorem qv_leader {post : Int32 → St2 → Prop} {L : List Nat} (h : qv_ok L (c, cd, cc, a1, a2, a3, a4, a5, a6, a7, a8, a9, a10, a11, a12, a13, a14, a15, a16, a17))
    (H0 : (∀ q, q < 5 → qv_ld (qv_cp L) q = false) → ∀ u, qv_okc L u → post (-1002) u)
    (H1 : ∀ q, q < 5 → qv_ld (qv_cp L) q = true → ∀ u, qv_okc L u → post (nI q) u) : wpX_leader post (c, cd, cc, a1, a2, a3, a4, a5, a6, a7, a8, a9, a10, a11, a12, a13, a14, a15, a16, a17) := by
  unfold wpX_leader
  dsimp only
  refine qv_countAll h (fun u h' => ?_)
  obtain ⟨c, cd, cc, a1, a2, a3, a4, a5, a6, a7, a8, a9, a10, a11, a12, a13, a14, a15, a16, a17⟩ := u
  have e5 := h'.2.2.1.2.2
  have key : ∀ d i, i + d = 5 → (∀ j, j < i → qv_ld (qv_cp L) j = false) → wX_leader_6 post c cd cc a1 a2 a3 a4 a5 a6 a7 a8 a9 a10 a11 a12 a13 a14 a15 a16 a17 (d + 1) (nI i) := by
    intro d
    induction d with
    | zero =>
      intro i hi hj
      have e : i = 5 := by omega
      subst e
      exact br_t (nI_le (a := 5) (Nat.le_refl _) (by omega)) (H0 hj _ h')
    | succ d ih =>
      intro i hi hj
      have hi5 : i < 5 := by omega
      have hl : qv_Bn (qv_cp L) i 5 ||| 2 ^ i < 2 ^ 5 := Nat.or_lt_two_pow (qv_Bn_lt _ i) (Nat.pow_lt_pow_right (by omega) hi5)
      refine br_f (nI_ge (b := 5) hi5 (by decide)) ⟨pk_in i 5 hi5, ?_⟩
      have e : a5 (nI i).toNatClampNeg ||| ((1 : Int32) <<< (nI i &&& 31)) = nI (qv_Bn (qv_cp L) i 5 ||| 2 ^ i) := by
        rw [nI_clamp (show i < 2 ^ 31 by omega), e5, qv_B_at _ hi5, qv_sh1 i (by omega), qv_nor]
      rw [e]
      refine pk_eq (qv_Bn (qv_cp L) i 5 ||| 2 ^ i) 31 (fun z => H1 i hi5 (decide_eq_true z) _ h') (fun z => nm_r (nI_1 i) (ih (i + 1) (by omega) ?_))
      intro j hj'
      by_cases ej : j = i
      · rw [ej]; exact decide_eq_false z
      · exact hj j (by omega)
  exact ⟨6, key 5 0 (by omega) (fun j hj => absurd hj (by omega))⟩
end
end
section
/-! couples: rule 10. The list -/
def qv_pa (P : List (Nat × Nat)) (k : Nat) : Nat := (P.getD k (0, 0)).1
def qv_pb (P : List (Nat × Nat)) (k : Nat) : Nat := (P.getD k (0, 0)).2
def qv_cpl (P : List (Nat × Nat)) (cc : Int32) (a10 a11 : Nat → Int32) : Prop :=
  P.length ≤ 10 ∧ cc = nI P.length ∧ (∀ k, k < P.length → a10 k = nI (qv_pa P k) ∧ a11 k = nI (qv_pb P k)) ∧ (∀ k, qv_pa P k < 5 ∧ qv_pb P k < 5)
def qv_D (K : (Nat → Bool) → Nat) (k : Nat) : Nat := qv_C K (k / 5) (k % 5) - qv_C K (k % 5) (k / 5)
def qv_l21 (K : (Nat → Bool) → Nat) (m a b : Nat) (P : List (Nat × Nat)) : List (Nat × Nat) := if qv_D K (5 * a + b) = m then P ++ [(a, b)] else P
def qv_l14 (K : (Nat → Bool) → Nat) (m a : Nat) (P : List (Nat × Nat)) : List (Nat × Nat) := qv_it (qv_l21 K m a) 5 P
def qv_l8 (K : (Nat → Bool) → Nat) (j : Nat) (P : List (Nat × Nat)) : List (Nat × Nat) := qv_it (qv_l14 K (9 - j)) 5 P
def qv_cl' (K : (Nat → Bool) → Nat) (j : Nat) : List (Nat × Nat) := qv_it (qv_l8 K) j []
def qv_ps (K : (Nat → Bool) → Nat) (m j : Nat) : Nat := qv_sum (fun k => if m < qv_D K k ∨ (qv_D K k = m ∧ k < j) then 1 else 0) 25
theorem qv_sum_congr {f g : Nat → Nat} {n : Nat} (h : ∀ k, k < n → f k = g k) : qv_sum f n = qv_sum g n := by
  induction n with
  | zero => rfl
  | succ n ih =>
    show qv_sum f n + f n = qv_sum g n + g n
    rw [ih (fun k hk => h k (by omega)), h n (by omega)]
theorem qv_sum_le {f g : Nat → Nat} {n : Nat} (h : ∀ k, k < n → f k ≤ g k) : qv_sum f n ≤ qv_sum g n := by
  induction n with
  | zero => exact Nat.le_refl 0
  | succ n ih =>
    show qv_sum f n + f n ≤ qv_sum g n + g n
    have h1 := ih (fun k hk => h k (by omega))
    have h2 := h n (by omega)
    omega
theorem qv_sum_one {f g : Nat → Nat} {n j : Nat} (hj : j < n) (h : ∀ k, k ≠ j → g k = f k) (h1 : g j = f j + 1) : qv_sum g n = qv_sum f n + 1 := by
  induction n with
  | zero => exact absurd hj (by omega)
  | succ n ih =>
    show qv_sum g n + g n = qv_sum f n + f n + 1
    by_cases e : j = n
    · subst e
      rw [qv_sum_congr (f := g) (g := f) (fun k hk => h k (by omega)), h1]
      omega
    · rw [ih (by omega), h n (by omega)]
      omega
theorem qv_ps_eq {K : (Nat → Bool) → Nat} {m j : Nat} (hj : j < 25) (h : qv_D K j = m) : qv_ps K m (j + 1) = qv_ps K m j + 1 := by
  refine qv_sum_one hj (fun k hk => ?_) ?_
  · by_cases t : m < qv_D K k ∨ (qv_D K k = m ∧ k < j)
    · rw [if_pos t, if_pos (by omega)]
    · rw [if_neg t, if_neg (by omega)]
  · rw [if_pos (by omega), if_neg (by omega)]
theorem qv_ps_ne {K : (Nat → Bool) → Nat} {m j : Nat} (h : ¬ qv_D K j = m) : qv_ps K m (j + 1) = qv_ps K m j := by
  refine qv_sum_congr (fun k _ => ?_)
  by_cases e : k = j
  · subst e
    by_cases t : m < qv_D K k ∨ (qv_D K k = m ∧ k < k)
    · rw [if_pos t, if_pos (by omega)]
    · rw [if_neg t, if_neg (by omega)]
  · by_cases t : m < qv_D K k ∨ (qv_D K k = m ∧ k < j)
    · rw [if_pos t, if_pos (by omega)]
    · rw [if_neg t, if_neg (by omega)]
theorem qv_ps_next {K : (Nat → Bool) → Nat} {m : Nat} : qv_ps K (m + 1) 25 = qv_ps K m 0 := by
  refine qv_sum_congr (fun k hk => ?_)
  by_cases t : m < qv_D K k ∨ (qv_D K k = m ∧ k < 0)
  · rw [if_pos t, if_pos (by omega)]
  · rw [if_neg t, if_neg (by omega)]
theorem qv_D_at (K : (Nat → Bool) → Nat) {a b : Nat} (hb : b < 5) : qv_D K (5 * a + b) = qv_C K a b - qv_C K b a := by
  unfold qv_D
  rw [show (5 * a + b) / 5 = a by omega, show (5 * a + b) % 5 = b by omega]
theorem qv_v_sum (v : Nat → Nat → Nat) (h0 : ∀ a, v a a = 0) (h1 : ∀ a b, v a b + v b a ≤ 1) : qv_sum (fun k => v (k / 5) (k % 5)) 25 ≤ 10 := by
  show 0 + v 0 0 + v 0 1 + v 0 2 + v 0 3 + v 0 4 + v 1 0 + v 1 1 + v 1 2 + v 1 3 + v 1 4 + v 2 0 + v 2 1 + v 2 2 + v 2 3 + v 2 4 + v 3 0 + v 3 1 + v 3 2 + v 3 3 + v 3 4 + v 4 0 + v 4 1 + v 4 2 + v 4 3 + v 4 4 ≤ 10
  have e0 := h0 0
  have e1 := h0 1
  have e2 := h0 2
  have e3 := h0 3
  have e4 := h0 4
  have f01 := h1 0 1
  have f02 := h1 0 2
  have f03 := h1 0 3
  have f04 := h1 0 4
  have f12 := h1 1 2
  have f13 := h1 1 3
  have f14 := h1 1 4
  have f23 := h1 2 3
  have f24 := h1 2 4
  have f34 := h1 3 4
  omega
theorem qv_ps_10 (K : (Nat → Bool) → Nat) {m j : Nat} (hm : 0 < m ∨ j = 0) : qv_ps K m j ≤ 10 := by
  refine Nat.le_trans (qv_sum_le (g := fun k => if 0 < qv_D K k then 1 else 0) (fun k _ => ?_)) ?_
  · by_cases t : m < qv_D K k ∨ (qv_D K k = m ∧ k < j)
    · rw [if_pos t, if_pos (by omega)]
      exact Nat.le_refl 1
    · rw [if_neg t]; exact Nat.zero_le _
  · refine qv_v_sum (fun a b => if 0 < qv_C K a b - qv_C K b a then 1 else 0) (fun a => if_neg (by omega)) (fun a b => ?_)
    by_cases t : 0 < qv_C K a b - qv_C K b a
    · rw [if_pos t, if_neg (by omega)]
      exact Nat.le_refl 1
    · rw [if_neg t]
      split
      · exact Nat.le_refl 1
      · exact Nat.zero_le _
theorem qv_ps_0 {K : (Nat → Bool) → Nat} (hK : ∀ p, K p ≤ 9) : qv_ps K 9 0 = 0 := by
  have h : ∀ n, qv_sum (fun k => if 9 < qv_D K k ∨ (qv_D K k = 9 ∧ k < 0) then 1 else 0) n = 0 := by
    intro n
    induction n with
    | zero => rfl
    | succ n ih =>
      show qv_sum _ n + (if 9 < qv_D K n ∨ (qv_D K n = 9 ∧ n < 0) then 1 else 0) = 0
      rw [ih, if_neg]
      have := hK (qv_pf (n / 5) (n % 5))
      unfold qv_D qv_C
      omega
  exact h 25
theorem qv_len21 {K : (Nat → Bool) → Nat} {m a : Nat} {P : List (Nat × Nat)} (ha : a < 5) (h : P.length = qv_ps K m (5 * a)) : ∀ b, b ≤ 5 → (qv_it (qv_l21 K m a) b P).length = qv_ps K m (5 * a + b) := by
  intro b
  induction b with
  | zero => intro _; exact h
  | succ b ih =>
    intro hb
    have ih' := ih (by omega)
    show (qv_l21 K m a b (qv_it (qv_l21 K m a) b P)).length = qv_ps K m (5 * a + b + 1)
    unfold qv_l21 at ih' ⊢
    by_cases t : qv_D K (5 * a + b) = m
    · rw [if_pos t, qv_ps_eq (by omega) t, List.length_append, ih']
      rfl
    · rw [if_neg t, qv_ps_ne t, ih']
theorem qv_len14 {K : (Nat → Bool) → Nat} {m : Nat} {P : List (Nat × Nat)} (h : P.length = qv_ps K m 0) : ∀ a, a ≤ 5 → (qv_it (qv_l14 K m) a P).length = qv_ps K m (5 * a) := by
  intro a
  induction a with
  | zero => intro _; exact h
  | succ a ih =>
    intro ha
    exact qv_len21 (P := qv_it (qv_l14 K m) a P) (by omega) (ih (by omega)) 5 (by omega)
theorem qv_len8 {K : (Nat → Bool) → Nat} (hK : ∀ p, K p ≤ 9) : ∀ j, j ≤ 9 → (qv_cl' K j).length = qv_ps K (9 - j) 0 := by
  intro j
  induction j with
  | zero => intro _; rw [qv_ps_0 hK]; rfl
  | succ j ih =>
    intro hj
    have t : (qv_cl' K (j + 1)).length = qv_ps K (9 - j) 25 := qv_len14 (P := qv_cl' K j) (ih (by omega)) 5 (by omega)
    rw [t, show 9 - j = (9 - (j + 1)) + 1 by omega, qv_ps_next]
theorem qv_mtab : ∀ x, x < 10 → ∀ y, y < 10 → ∀ m, m < 10 → 0 < m → (nI x - nI y = nI m ↔ x - y = m) := by decide +kernel
theorem qv_pa_app {P : List (Nat × Nat)} {a b k : Nat} : qv_pa (P ++ [(a, b)]) k = (if k = P.length then a else qv_pa P k) ∧ qv_pb (P ++ [(a, b)]) k = (if k = P.length then b else qv_pb P k) := by
  unfold qv_pa qv_pb
  rw [List.getD_eq_getElem?_getD, List.getD_eq_getElem?_getD, List.getElem?_append]
  by_cases e : k = P.length
  · subst e; simp
  · rw [if_neg e, if_neg e]
    by_cases h : k < P.length
    · rw [if_pos h]; exact ⟨rfl, rfl⟩
    · rw [if_neg h, List.getElem?_eq_none (by simp; omega), List.getElem?_eq_none (by omega)]
      exact ⟨rfl, rfl⟩
theorem qv_cpl_app {P : List (Nat × Nat)} {cc : Int32} {a10 a11 : Nat → Int32} {a b : Nat} (h : qv_cpl P cc a10 a11) (hl : P.length < 10) (ha : a < 5) (hb : b < 5) :
    qv_cpl (P ++ [(a, b)]) (nI (P.length + 1)) (upd a10 P.length (nI a)) (upd a11 P.length (nI b)) := by
  obtain ⟨h1, h2, h3, h4⟩ := h
  have hlen : (P ++ [(a, b)]).length = P.length + 1 := by simp
  refine ⟨by omega, by rw [hlen], fun k hk => ?_, fun k => ?_⟩
  · rw [qv_pa_app.1, qv_pa_app.2]
    by_cases e : k = P.length
    · rw [if_pos e, if_pos e, e, pk_us, pk_us]; exact ⟨rfl, rfl⟩
    · rw [if_neg e, if_neg e, pk_un e, pk_un e]; exact h3 k (by omega)
  · rw [qv_pa_app.1, qv_pa_app.2]
    by_cases e : k = P.length
    · rw [if_pos e, if_pos e]; exact ⟨ha, hb⟩
    · rw [if_neg e, if_neg e]; exact h4 k
section
variable {c cd cc : Int32} {a1 a2 a3 a4 a5 a6 a7 a8 a9 a10 a11 a12 a13 a14 a15 a16 a17 : Nat → Int32}
theorem qv_addCouple {post : St2 → Prop} {P : List (Nat × Nat)} {a b : Nat} (h : qv_cpl P cc a10 a11) (hl : P.length < 10) (ha : a < 5) (hb : b < 5)
    (H : ∀ cc' a10' a11', qv_cpl (P ++ [(a, b)]) cc' a10' a11' → post (c, cd, cc', a1, a2, a3, a4, a5, a6, a7, a8, a9, a10', a11', a12, a13, a14, a15, a16, a17)) : wpX_addCouple post (c, cd, cc, a1, a2, a3, a4, a5, a6, a7, a8, a9, a10, a11, a12, a13, a14, a15, a16, a17) (nI a) (nI b) := by
  have h' := h
  obtain ⟨h1, h2, h3, h4⟩ := h
  subst h2
  refine ⟨pk_in P.length 10 hl, nm_r (e' := upd a10 P.length (nI a)) (by rw [nI_clamp (by omega), qv_byte a (by omega)]) ⟨pk_in P.length 10 hl, nm_r (e' := upd a11 P.length (nI b)) (by rw [nI_clamp (by omega), qv_byte b (by omega)]) (nm_r (nI_1 _) (H _ _ _ (qv_cpl_app h' hl ha hb)))⟩⟩
theorem qv_list {post : St2 → Prop} {K : (Nat → Bool) → Nat} (hK : ∀ p, K p ≤ 9) (e4 : a4 = qv_M K)
    (H : ∀ cc' a10' a11', qv_cpl (qv_cl' K 9) cc' a10' a11' → post (c, cd, cc', a1, a2, a3, a4, a5, a6, a7, a8, a9, a10', a11', a12, a13, a14, a15, a16, a17)) : wpX_listCouples post (c, cd, cc, a1, a2, a3, a4, a5, a6, a7, a8, a9, a10, a11, a12, a13, a14, a15, a16, a17) := by
  subst e4
  have main : ∀ d j cc a10 a11, j + d = 9 → qv_cpl (qv_cl' K j) cc a10 a11 → wX_listCouples_8 post (d + 1) (nI d) c cd cc a1 a2 a3 (qv_M K) a5 a6 a7 a8 a9 a10 a11 a12 a13 a14 a15 a16 a17 := by
    intro d
    induction d with
    | zero =>
      intro j cc a10 a11 hj h
      have e : j = 9 := by omega
      subst e
      exact br_t (by decide) (H _ _ _ h)
    | succ d ih =>
      intro j cc a10 a11 hj h
      have hd9 : 9 - j = d + 1 := by omega
      refine br_f (nI_nle (by omega) (by omega)) ?_
      refine qv_up (σ := Int32 × (Nat → Int32) × (Nat → Int32)) (fun n z s => wX_listCouples_14 post (wX_listCouples_8 post (d + 1)) (nI (d + 1)) n z c cd s.1 a1 a2 a3 (qv_M K) a5 a6 a7 a8 a9 s.2.1 s.2.2 a12 a13 a14 a15 a16 a17) (fun a s => qv_cpl (qv_it (qv_l14 K (9 - j)) a (qv_cl' K j)) s.1 s.2.1 s.2.2) 0 5 (cc, a10, a11) (by omega) h ?_ ?_
      · intro n a s _ ha hI hw
        refine br_f (nI_ge (b := 5) ha (by decide)) ?_
        refine qv_up (σ := Int32 × (Nat → Int32) × (Nat → Int32)) (fun n' z s => wX_listCouples_21 post (wX_listCouples_8 post (d + 1)) (wX_listCouples_14 post (wX_listCouples_8 post (d + 1)) (nI (d + 1)) n) (nI (d + 1)) (nI a) n' z c cd s.1 a1 a2 a3 (qv_M K) a5 a6 a7 a8 a9 s.2.1 s.2.2 a12 a13 a14 a15 a16 a17) (fun b s => qv_cpl (qv_it (qv_l21 K (9 - j) a) b (qv_it (qv_l14 K (9 - j)) a (qv_cl' K j))) s.1 s.2.1 s.2.2) 0 5 s (by omega) hI ?_ ?_
        · intro n' b s' _ hb hI' hw'
          refine br_f (nI_ge (b := 5) hb (by decide)) ⟨pk_in (5 * a + b) 25 (by omega) (qv_ix a b), ?_⟩
          rw [qv_ixc (by omega) (by omega), qv_M_at K ha hb]
          have hx : qv_C K a b < 10 := Nat.lt_of_le_of_lt (hK _) (by omega)
          have hy : qv_C K b a < 10 := Nat.lt_of_le_of_lt (hK _) (by omega)
          have hlen := qv_len21 (K := K) (m := 9 - j) (P := qv_it (qv_l14 K (9 - j)) a (qv_cl' K j)) ha (qv_len14 (qv_len8 hK j (by omega)) a (by omega))
          refine ek_if (qv_mtab _ hx _ hy (d + 1) (by omega) (by omega)) (fun z => ?_) (fun z => nm_r (nI_1 b) (hw' s' ?_))
          · have t : qv_D K (5 * a + b) = 9 - j := by rw [qv_D_at K hb, hd9]; exact z
            have l1 := hlen b (by omega)
            have l2 := hlen (b + 1) (by omega)
            have l3 : qv_ps K (9 - j) (5 * a + b + 1) = qv_ps K (9 - j) (5 * a + b) + 1 := qv_ps_eq (by omega) t
            have l4 : qv_ps K (9 - j) (5 * a + b + 1) ≤ 10 := qv_ps_10 K (Or.inl (by omega))
            refine qv_addCouple hI' (by omega) ha hb (fun cc' a10' a11' h' => nm_r (nI_1 b) (hw' (cc', a10', a11') ?_))
            show qv_cpl (qv_l21 K (9 - j) a b _) cc' a10' a11'
            unfold qv_l21
            rw [if_pos t]
            exact h'
          · show qv_cpl (qv_l21 K (9 - j) a b _) s'.1 s'.2.1 s'.2.2
            have t : ¬ qv_D K (5 * a + b) = 9 - j := by rw [qv_D_at K hb, hd9]; exact z
            unfold qv_l21
            rw [if_neg t]
            exact hI'
        · intro n' s' hI'
          exact br_t (nI_le (a := 5) (Nat.le_refl _) (by omega)) (nm_r (nI_1 a) (hw s' hI'))
      · intro n s hI
        exact br_t (nI_le (a := 5) (Nat.le_refl _) (by omega)) (nm_r (pk_m1 d) (ih (j + 1) s.1 s.2.1 s.2.2 (by omega) hI))
  refine ⟨10, main 9 0 0 a10 a11 (by omega) ⟨Nat.zero_le _, rfl, fun k hk => absurd hk (by show ¬ k < 0; omega), fun k => ⟨?_, ?_⟩⟩⟩
  · show qv_pa [] k < 5
    unfold qv_pa
    simp
  · show qv_pb [] k < 5
    unfold qv_pb
    simp
end
end
section
/-! couples: what is kept -/
def qv_rst (P : List (Nat × Nat)) (x : Int32) (k : Nat) (V : Nat → Int32) : Nat → Int32 := if qv_b x (nI k) = 0 then V else upd V (qv_pa P k) ((V (qv_pa P k) ||| ((1 : Int32) <<< (nI (qv_pb P k) &&& 31))).toInt8.toInt32)
def qv_rch (P : List (Nat × Nat)) (x : Int32) : Nat → Int32 := qv_clo (qv_it (qv_rst P x) P.length (fun _ => 0))
def qv_cm1 (P : List (Nat × Nat)) (x : Int32) (a : Nat) : Bool := !decide (qv_b (qv_rch P x a) (nI a) = 0)
def qv_cm2 (P : List (Nat × Nat)) (x g : Int32) (k : Nat) : Bool := !decide (qv_b g (nI k) = 0) && (decide (qv_b x (nI k) = 0) && decide (qv_b (qv_rch P x (qv_pb P k)) (nI (qv_pa P k)) = 0))
def qv_anyb (p : Nat → Bool) : Nat → Bool
  | 0 => false
  | n + 1 => qv_anyb p n || p n
theorem qv_anyb_iff (p : Nat → Bool) (n : Nat) : qv_anyb p n = true ↔ ∃ i, i < n ∧ p i = true := by
  induction n with
  | zero => exact ⟨fun h => absurd (show false = true from h) (by decide), fun ⟨i, hi, _⟩ => absurd hi (by omega)⟩
  | succ n ih =>
    show (qv_anyb p n || p n) = true ↔ _
    rw [Bool.or_eq_true, ih]
    constructor
    · intro h
      rcases h with ⟨i, hi, h⟩ | h
      · exact ⟨i, by omega, h⟩
      · exact ⟨n, by omega, h⟩
    · intro ⟨i, hi, h⟩
      by_cases e : i = n
      · exact Or.inr (e ▸ h)
      · exact Or.inl ⟨i, by omega, h⟩
theorem qv_anyb_f {p : Nat → Bool} {n : Nat} (h : ∀ i, i < n → p i = false) : qv_anyb p n = false := by
  cases t : qv_anyb p n with
  | false => rfl
  | true =>
    obtain ⟨i, hi, z⟩ := (qv_anyb_iff p n).mp t
    rw [h i hi] at z
    exact absurd z (by decide)
def qv_cm (P : List (Nat × Nat)) (x g : Int32) : Bool := !(qv_anyb (qv_cm1 P x) 5) && !(qv_anyb (qv_cm2 P x g) P.length)
def qv_xs (P : List (Nat × Nat)) (kept g p : Nat) (F : Nat → Int32) : Nat → Int32 := if qv_cm P (nI (kept ||| p)) (nI g) = true then upd F (kept ||| p) 1 else F
def qv_ext2 (P : List (Nat × Nat)) (kept g : Nat) : Nat → Nat → (Nat → Int32) → (Nat → Int32)
  | 0, _, F => F
  | f + 1, p, F => if p = 0 then qv_xs P kept g p F else qv_ext2 P kept g f ((p - 1) &&& g) (qv_xs P kept g p F)
def qv_gps (P : List (Nat × Nat)) (A : Nat → Int32) (g k : Nat) (F : Nat → Int32) : Nat → Int32 := if A k = 0 then F else qv_ext2 P k g 1024 g F
def qv_gp (P : List (Nat × Nat)) (A : Nat → Int32) (first g : Nat) : Nat → Int32 := qv_it (qv_gps P A g) (2 ^ first) (fun _ => 0)
def qv_bo (F : Nat → Int32) : Prop := (∀ k, F k = 0 ∨ F k = 1) ∧ qv_tz 1024 F
theorem qv_bo_upd {F : Nat → Int32} {k : Nat} (h : qv_bo F) (hk : k < 1024) : qv_bo (upd F k 1) := by
  refine ⟨fun j => ?_, qv_tz_upd h.2 hk⟩
  by_cases e : j = k
  · rw [e, pk_us]; exact Or.inr rfl
  · rw [pk_un e]; exact h.1 j
theorem qv_or10 {a b : Nat} (ha : a < 1024) (hb : b < 1024) : a ||| b < 1024 := Nat.or_lt_two_pow (n := 10) ha hb
theorem qv_xs_bo {P : List (Nat × Nat)} {kept g p : Nat} {F : Nat → Int32} (hk : kept < 1024) (hp : p < 1024) (h : qv_bo F) : qv_bo (qv_xs P kept g p F) := by
  unfold qv_xs
  split
  · exact qv_bo_upd h (qv_or10 hk hp)
  · exact h
theorem qv_ext2_bo {P : List (Nat × Nat)} {kept g : Nat} (hk : kept < 1024) : ∀ (f p : Nat) (F : Nat → Int32), p < 1024 → qv_bo F → qv_bo (qv_ext2 P kept g f p F) := by
  intro f
  induction f with
  | zero => intro p F _ h; exact h
  | succ f ih =>
    intro p F hp h
    show qv_bo (if p = 0 then _ else _)
    split
    · exact qv_xs_bo hk hp h
    · have t : (p - 1) &&& g ≤ p - 1 := Nat.and_le_left
      exact ih _ _ (by omega) (qv_xs_bo hk hp h)
theorem qv_gp_bo {P : List (Nat × Nat)} {A : Nat → Int32} {first g : Nat} (hf : first ≤ 10) (hg : g < 1024) : qv_bo (qv_gp P A first g) := by
  have h10 : 2 ^ first ≤ 2 ^ 10 := Nat.pow_le_pow_right (by omega) hf
  refine qv_it_inv _ qv_bo _ _ ⟨fun _ => Or.inl rfl, fun _ _ => rfl⟩ (fun k F hk h => ?_)
  unfold qv_gps
  split
  · exact h
  · exact qv_ext2_bo (by omega) _ _ _ hg h
theorem qv_vbool {x : Int32} (h : x = 0 ∨ x = 1) : vp_nar .boolean x = x := by
  rcases h with h | h
  · rw [h]; rfl
  · rw [h]; rfl
theorem qv_rch_tz {P : List (Nat × Nat)} (hP : ∀ k, qv_pa P k < 5 ∧ qv_pb P k < 5) (x : Int32) : qv_tz 5 (qv_rch P x) := by
  refine qv_clo_tz (qv_it_inv _ (qv_tz 5) _ _ (fun _ _ => rfl) (fun k V _ h => ?_))
  unfold qv_rst
  split
  · exact h
  · exact qv_tz_upd h (hP k).1
section
variable {c cd cc : Int32} {a1 a2 a3 a4 a5 a6 a7 a8 a9 a10 a11 a12 a13 a14 a15 a16 a17 : Nat → Int32}
theorem qv_reaches {post : St2 → Prop} {P : List (Nat × Nat)} {x : Int32} (h : qv_cpl P cc a10 a11) (h9 : qv_tz 5 a9) (H : post (c, cd, cc, a1, a2, a3, a4, a5, a6, a7, a8, qv_rch P x, a10, a11, a12, a13, a14, a15, a16, a17)) : wpX_findReaches post (c, cd, cc, a1, a2, a3, a4, a5, a6, a7, a8, a9, a10, a11, a12, a13, a14, a15, a16, a17) x := by
  obtain ⟨h1, h2, h3, h4⟩ := h
  subst h2
  refine qv_up (fun n z s => wX_findReaches_2 post x c cd (nI P.length) n z a1 a2 a3 a4 a5 a6 a7 a8 s a10 a11 a12 a13 a14 a15 a16 a17) (fun i s => (∀ k, k < i → s k = 0) ∧ qv_tz 5 s) 0 5 a9 (by omega) ⟨fun k hk => absurd hk (by omega), h9⟩ ?_ ?_
  · intro n i s _ hi ⟨i1, i2⟩ hw
    exact br_f (nI_ge (b := 5) hi (by decide)) ⟨pk_in i 5 hi, nm_r (e' := upd s i 0) (by rw [nI_clamp (show i < 2 ^ 31 by omega)]) (nm_r (nI_1 i) (hw _ ⟨qv_fill (f := fun _ => 0) rfl i1 rfl, qv_tz_upd i2 hi⟩))⟩
  · intro n s ⟨i1, i2⟩
    have e : s = fun _ => 0 := qv_ext i2 (fun _ _ => rfl) i1
    subst e
    unfold qv_rch at H
    refine br_t (nI_le (a := 5) (Nat.le_refl _) (by omega)) ?_
    refine qv_fo (fun n z V => wX_findReaches_22 post x c cd (nI P.length) n z a1 a2 a3 a4 a5 a6 a7 a8 V a10 a11 a12 a13 a14 a15 a16 a17) (qv_rst P x) P.length (fun _ => 0) ?_ (fun n => br_t (nI_le (Nat.le_refl _) (by omega)) (qv_close H))
    intro n k V hk hw
    unfold qv_rst at hw
    obtain ⟨p1, p2⟩ := h3 k hk
    obtain ⟨q1, q2⟩ := h4 k
    refine br_f (nI_ge hk (by omega)) (br_c (fun z => nm_r (nI_1 k) ?_) (fun z => ?_))
    · have z' : qv_b x (nI k) = 0 := z
      rw [if_pos z'] at hw; exact hw
    · have z' : ¬ qv_b x (nI k) = 0 := z
      rw [if_neg z'] at hw
      rw [nI_clamp (show k < 2 ^ 31 by omega), p1, p2, nI_clamp (show qv_pa P k < 2 ^ 31 by omega)]
      exact ⟨pk_in k 10 (by omega), pk_in _ 5 q1, pk_in k 10 (by omega), pk_in _ 5 q1, nm_e (nm_r (nI_1 k) hw)⟩
theorem qv_isComplete {post : Int32 → St2 → Prop} {P : List (Nat × Nat)} {x g : Int32} (h : qv_cpl P cc a10 a11) (h9 : qv_tz 5 a9) (H : post (qv_oI (qv_cm P x g)) (c, cd, cc, a1, a2, a3, a4, a5, a6, a7, a8, qv_rch P x, a10, a11, a12, a13, a14, a15, a16, a17)) : wpX_isComplete post (c, cd, cc, a1, a2, a3, a4, a5, a6, a7, a8, a9, a10, a11, a12, a13, a14, a15, a16, a17) x g := by
  unfold wpX_isComplete
  dsimp only
  refine qv_reaches h h9 ?_
  obtain ⟨h1, h2, h3, h4⟩ := h
  subst h2
  unfold qv_cm at H
  refine qv_first (fun n z => wX_isComplete_7 post x g c cd (nI P.length) a1 a2 a3 a4 a5 a6 a7 a8 (qv_rch P x) a10 a11 a12 a13 a14 a15 a16 a17 n z) (qv_anyb (qv_cm1 P x) 5 = false) (post 0 (c, cd, nI P.length, a1, a2, a3, a4, a5, a6, a7, a8, qv_rch P x, a10, a11, a12, a13, a14, a15, a16, a17)) (qv_cm1 P x) 5 ?_ ?_ qv_anyb_f ?_
  · intro n hK
    rw [hK] at H
    refine br_t (nI_le (a := 5) (Nat.le_refl _) (by omega)) ?_
    refine qv_first (fun n z => wX_isComplete_36 post x g c cd (nI P.length) a1 a2 a3 a4 a5 a6 a7 a8 (qv_rch P x) a10 a11 a12 a13 a14 a15 a16 a17 n z) (post 1 (c, cd, nI P.length, a1, a2, a3, a4, a5, a6, a7, a8, qv_rch P x, a10, a11, a12, a13, a14, a15, a16, a17)) (post 0 (c, cd, nI P.length, a1, a2, a3, a4, a5, a6, a7, a8, qv_rch P x, a10, a11, a12, a13, a14, a15, a16, a17)) (qv_cm2 P x g) P.length ?_ ?_ ?_ ?_
    · intro n' hK'
      exact br_t (nI_le (Nat.le_refl _) (by omega)) hK'
    · intro n' k hk hp1 hp0
      obtain ⟨p1, p2⟩ := h3 k hk
      obtain ⟨q1, q2⟩ := h4 k
      have W64 : qv_cm2 P x g k = false → wX_isComplete_65 post (wX_isComplete_36 post x g c cd (nI P.length) a1 a2 a3 a4 a5 a6 a7 a8 (qv_rch P x) a10 a11 a12 a13 a14 a15 a16 a17 n') x g (nI k) 0 c cd (nI P.length) a1 a2 a3 a4 a5 a6 a7 a8 (qv_rch P x) a10 a11 a12 a13 a14 a15 a16 a17 :=
        fun t => br_t rfl (nm_r (nI_1 k) (hp0 t))
      refine br_f (nI_ge hk (by omega)) (br_c (fun z => W64 ?_) (fun z => br_c (fun z2 => ?_) (fun z2 => W64 ?_)))
      · unfold qv_cm2
        have z' : qv_b g (nI k) = 0 := z
        rw [decide_eq_true z', Bool.not_true, Bool.false_and]
      · have z' : ¬ qv_b g (nI k) = 0 := z
        have z2' : qv_b x (nI k) = 0 := z2
        have E : qv_cm2 P x g k = decide (qv_b (qv_rch P x (qv_pb P k)) (nI (qv_pa P k)) = 0) := by
          unfold qv_cm2
          rw [decide_eq_false z', decide_eq_true z2', Bool.not_false, Bool.true_and, Bool.true_and]
        rw [E] at hp0 hp1
        unfold wX_isComplete_65
        rw [nI_clamp (show k < 2 ^ 31 by omega), p1, p2, nI_clamp (show qv_pb P k < 2 ^ 31 by omega)]
        exact br_f (by decide) ⟨pk_in k 10 (by omega), pk_in _ 5 q2, pk_in k 10 (by omega), qv_isIn (fun t => hp1 (decide_eq_true t)) (fun t => nm_r (nI_1 k) (hp0 (decide_eq_false t)))⟩
      · unfold qv_cm2
        have z2' : ¬ qv_b x (nI k) = 0 := z2
        rw [decide_eq_false z2', Bool.false_and, Bool.and_false]
    · intro t
      rw [qv_anyb_f t] at H
      exact H
    · intro t
      rw [(qv_anyb_iff _ _).mpr t] at H
      exact H
  · intro n a ha hp1 hp0
    unfold qv_cm1 at hp0 hp1
    refine br_f (nI_ge (b := 5) ha (by decide)) ⟨pk_in a 5 ha, ?_⟩
    rw [nI_clamp (show a < 2 ^ 31 by omega)]
    exact qv_isIn (fun t => nm_r (nI_1 a) (hp0 (by rw [decide_eq_true t]; rfl))) (fun t => hp1 (by rw [decide_eq_false t]; rfl))
  · intro t
    rw [(qv_anyb_iff _ _).mpr t] at H
    exact H
theorem qv_extend5 {post : St2 → Prop} {P : List (Nat × Nat)} {kept g : Nat} (hk : kept < 1024) (h : qv_cpl P cc a10 a11) :
    ∀ (f p : Nat) (F b9 : Nat → Int32) (n : Nat), p < f → p < 1024 → p + 1 < n → qv_tz 5 b9 → (∀ b9', qv_tz 5 b9' → post (c, cd, cc, a1, a2, a3, a4, a5, a6, a7, a8, b9', a10, a11, a12, qv_ext2 P kept g f p F, a14, a15, a16, a17)) → wX_extend_5 post (nI kept) (nI g) n (nI p) 1 c cd cc a1 a2 a3 a4 a5 a6 a7 a8 b9 a10 a11 a12 F a14 a15 a16 a17 := by
  intro f
  induction f with
  | zero => intro p F b9 n hp; exact absurd hp (by omega)
  | succ f ih =>
    intro p F b9 n hp hp2 hn h9 H
    obtain ⟨m, rfl⟩ : ∃ m, n = m + 1 := ⟨n - 1, by omega⟩
    have hrt := qv_rch_tz h.2.2.2 (nI (kept ||| p))
    have key : wX_extend_30 post (wX_extend_5 post (nI kept) (nI g) m) (nI kept) (nI g) (nI p) c cd cc a1 a2 a3 a4 a5 a6 a7 a8 (qv_rch P (nI (kept ||| p))) a10 a11 a12 (qv_xs P kept g p F) a14 a15 a16 a17 := by
      refine pk_eq p 0 (fun z => ?_) (fun z => ?_)
      · refine nm_e ?_
        obtain ⟨m', rfl⟩ : ∃ m', m = m' + 1 := ⟨m - 1, by omega⟩
        refine br_t rfl ?_
        have H' := H _ hrt
        have E : qv_ext2 P kept g (f + 1) p F = qv_xs P kept g p F := by
          show (if p = 0 then _ else _) = _
          rw [if_pos z]
        rw [E] at H'
        exact H'
      · have e1 : nI p - 1 = nI (p - 1) := by
          obtain ⟨t, rfl⟩ : ∃ t, p = t + 1 := ⟨p - 1, by omega⟩
          exact nI_pred t
        have l1 : (p - 1) &&& g ≤ p - 1 := Nat.and_le_left
        refine nm_r (e' := nI ((p - 1) &&& g)) (by rw [e1, qv_nand]) (ih _ _ _ m (by omega) (by omega) (by omega) hrt (fun b9' hb9' => ?_))
        have H' := H b9' hb9'
        have E : qv_ext2 P kept g (f + 1) p F = qv_ext2 P kept g f ((p - 1) &&& g) (qv_xs P kept g p F) := by
          show (if p = 0 then _ else _) = _
          rw [if_neg z]
        rw [E] at H'
        exact H'
    refine br_f (by decide) ?_
    rw [qv_nor]
    refine qv_isComplete h h9 ?_
    unfold qv_xs at key
    cases t : qv_cm P (nI (kept ||| p)) (nI g) with
    | false =>
      rw [if_neg (by rw [t]; decide)] at key
      exact br_t rfl key
    | true =>
      rw [if_pos t] at key
      have hl := qv_or10 hk hp2
      exact br_f (by decide) ⟨pk_in _ 1024 hl, nm_r (by rw [nI_clamp (Nat.lt_trans hl (by omega))]) key⟩
theorem qv_extend {post : St2 → Prop} {P : List (Nat × Nat)} {kept g : Nat} (hk : kept < 1024) (hg : g < 1024) (h : qv_cpl P cc a10 a11) (h9 : qv_tz 5 a9)
    (H : ∀ b9, qv_tz 5 b9 → post (c, cd, cc, a1, a2, a3, a4, a5, a6, a7, a8, b9, a10, a11, a12, qv_ext2 P kept g 1024 g a13, a14, a15, a16, a17)) : wpX_extend post (c, cd, cc, a1, a2, a3, a4, a5, a6, a7, a8, a9, a10, a11, a12, a13, a14, a15, a16, a17) (nI kept) (nI g) :=
  ⟨1026, qv_extend5 hk h 1024 g a13 a9 1026 hg hg (by omega) h9 H⟩
theorem qv_addGroup {post : St2 → Prop} {P : List (Nat × Nat)} {first g : Nat} (hf : first ≤ 10) (hg : g < 1024) (h : qv_cpl P cc a10 a11) (h9 : qv_tz 5 a9) (h12 : qv_tz 1024 a12) (h13 : qv_tz 1024 a13)
    (H : ∀ b9, qv_tz 5 b9 → post (c, cd, cc, a1, a2, a3, a4, a5, a6, a7, a8, b9, a10, a11, qv_gp P a12 first g, qv_gp P a12 first g, a14, a15, a16, a17)) : wpX_addGroup post (c, cd, cc, a1, a2, a3, a4, a5, a6, a7, a8, a9, a10, a11, a12, a13, a14, a15, a16, a17) (nI first) (nI g) := by
  have h10 : 2 ^ first ≤ 2 ^ 10 := Nat.pow_le_pow_right (by omega) hf
  refine qv_up (fun n z s => wX_addGroup_2 post (nI first) (nI g) c cd cc n z a1 a2 a3 a4 a5 a6 a7 a8 a9 a10 a11 a12 s a14 a15 a16 a17) (fun i s => (∀ k, k < i → s k = 0) ∧ qv_tz 1024 s) 0 1024 a13 (by omega) ⟨fun k hk => absurd hk (by omega), h13⟩ ?_ ?_
  · intro n i s _ hi ⟨i1, i2⟩ hw
    exact br_f (nI_ge (b := 1024) hi (by decide)) ⟨pk_in i 1024 hi, nm_r (e' := upd s i 0) (by rw [nI_clamp (show i < 2 ^ 31 by omega)]) (nm_r (nI_1 i) (hw _ ⟨qv_fill (f := fun _ => 0) rfl i1 rfl, qv_tz_upd i2 hi⟩))⟩
  · intro n s ⟨i1, i2⟩
    have e : s = fun _ => 0 := qv_ext i2 (fun _ _ => rfl) i1
    subst e
    refine br_t (nI_le (a := 1024) (Nat.le_refl _) (by omega)) ?_
    refine qv_up (σ := (Nat → Int32) × (Nat → Int32)) (fun n z s => wX_addGroup_24 post (nI first) (nI g) n z c cd cc a1 a2 a3 a4 a5 a6 a7 a8 s.1 a10 a11 a12 s.2 a14 a15 a16 a17) (fun i s => qv_tz 5 s.1 ∧ s.2 = qv_it (qv_gps P a12 g) i (fun _ => 0)) 0 (2 ^ first) (a9, fun _ => 0) (Nat.zero_le _) ⟨h9, rfl⟩ ?_ ?_
    · intro n k s _ hk ⟨i1, i2⟩ hw
      have hk10 : k < 1024 := by omega
      have es : ((1 : Int32) <<< (nI first &&& 31)) = nI (2 ^ first) := qv_sh1 first (by omega)
      unfold wX_addGroup_24
      rw [es, nI_clamp (show k < 2 ^ 31 by omega)]
      refine br_f (nI_ge hk (by omega)) ⟨pk_in k 1024 hk10, br_c (fun z => nm_r (nI_1 k) (hw s ⟨i1, ?_⟩)) (fun z => qv_extend hk10 hg h i1 (fun b9 hb9 => nm_r (nI_1 k) (hw (b9, qv_ext2 P k g 1024 g s.2) ⟨hb9, ?_⟩)))⟩
      · show s.2 = qv_gps P a12 g k _
        rw [← i2]
        unfold qv_gps
        rw [if_pos z]
      · show qv_ext2 P k g 1024 g s.2 = qv_gps P a12 g k _
        rw [← i2]
        unfold qv_gps
        rw [if_neg z]
    · intro n s ⟨j1, j2⟩
      have e2 : s.2 = qv_gp P a12 first g := j2
      have es : ((1 : Int32) <<< (nI first &&& 31)) = nI (2 ^ first) := qv_sh1 first (by omega)
      have hbo := qv_gp_bo (P := P) (A := a12) (first := first) (g := g) hf hg
      show wX_addGroup_24 post (nI first) (nI g) (n + 1) (nI (2 ^ first)) c cd cc a1 a2 a3 a4 a5 a6 a7 a8 s.1 a10 a11 a12 s.2 a14 a15 a16 a17
      rw [e2]
      unfold wX_addGroup_24
      rw [es]
      refine br_t (nI_le (Nat.le_refl _) (by omega)) ?_
      have Hf := H s.1 j1
      generalize qv_gp P a12 first g = G at Hf hbo ⊢
      refine qv_up (fun n z s' => wX_addGroup_54 post c cd cc n z a1 a2 a3 a4 a5 a6 a7 a8 s.1 a10 a11 s' G a14 a15 a16 a17) (fun i s' => (∀ k, k < i → s' k = G k) ∧ qv_tz 1024 s') 0 1024 a12 (by omega) ⟨fun k hk => absurd hk (by omega), h12⟩ ?_ ?_
      · intro n i s' _ hi ⟨k1, k2⟩ hw
        refine br_f (nI_ge (b := 1024) hi (by decide)) ⟨pk_in i 1024 hi, pk_in i 1024 hi, nm_r (e' := upd s' i (G i)) (by rw [nI_clamp (show i < 2 ^ 31 by omega), qv_vbool (hbo.1 i)]) (nm_r (nI_1 i) (hw _ ⟨qv_fill rfl k1 rfl, qv_tz_upd k2 hi⟩))⟩
      · intro n s' ⟨k1, k2⟩
        have e : s' = G := qv_ext k2 hbo.2 k1
        subst e
        exact br_t (nI_le (a := 1024) (Nat.le_refl _) (by omega)) Hf
end
end
section
/-! couples: groups of equal margins -/
def qv_mo (P : List (Nat × Nat)) (M : Nat → Int32) (k : Nat) : Int32 := M (5 * qv_pa P k + qv_pb P k)
def qv_en (P : List (Nat × Nat)) (M : Nat → Int32) (mg : Int32) : Nat → Nat → Nat
  | 0, e => e
  | d + 1, e => if qv_mo P M e = mg then qv_en P M mg d (e + 1) else e
def qv_e1 (P : List (Nat × Nat)) (M : Nat → Int32) (dn : Nat) : Nat := qv_en P M (qv_mo P M dn) (P.length - dn) dn
def qv_bc (P : List (Nat × Nat)) (M : Nat → Int32) : Nat → Nat → (Nat → Int32) → (Nat → Int32)
  | 0, _, A => A
  | f + 1, dn, A => if P.length ≤ dn then A else qv_bc P M f (qv_e1 P M dn) (qv_gp P A dn (2 ^ qv_e1 P M dn - 2 ^ dn))
def qv_ubs (P : List (Nat × Nat)) (x : Int32) (k : Nat) (s : Int32) : Int32 := if qv_b x (nI k) = 0 then s else s &&& (((1 : Int32) <<< (nI (qv_pb P k) &&& 31)) ^^^ (-1))
def qv_unb (P : List (Nat × Nat)) (x : Int32) : Int32 := qv_it (qv_ubs P x) P.length 31
def qv_fin (P : List (Nat × Nat)) (A : Nat → Int32) : Int32 := qv_it (fun k x => if A k = 0 then x else x ||| qv_unb P (nI k)) 1024 0
def qv_A0 : Nat → Int32 := fun k => if k = 0 then 1 else 0
def qv_byc (K : (Nat → Bool) → Nat) : Int32 := qv_fin (qv_cl' K 9) (qv_bc (qv_cl' K 9) (qv_M K) 11 0 qv_A0)
theorem qv_en_le (P : List (Nat × Nat)) (M : Nat → Int32) (mg : Int32) : ∀ d e, e ≤ qv_en P M mg d e ∧ qv_en P M mg d e ≤ e + d := by
  intro d
  induction d with
  | zero => intro e; exact ⟨Nat.le_refl _, Nat.le_refl _⟩
  | succ d ih =>
    intro e
    show e ≤ (if qv_mo P M e = mg then qv_en P M mg d (e + 1) else e) ∧ (if qv_mo P M e = mg then qv_en P M mg d (e + 1) else e) ≤ e + (d + 1)
    have h := ih (e + 1)
    split
    · exact ⟨by omega, by omega⟩
    · exact ⟨Nat.le_refl _, by omega⟩
theorem qv_e1_lt {P : List (Nat × Nat)} {M : Nat → Int32} {dn : Nat} (h : dn < P.length) : dn < qv_e1 P M dn ∧ qv_e1 P M dn ≤ P.length := by
  unfold qv_e1
  obtain ⟨d, hd⟩ : ∃ d, P.length - dn = d + 1 := ⟨P.length - dn - 1, by omega⟩
  rw [hd]
  show dn < (if qv_mo P M dn = qv_mo P M dn then qv_en P M (qv_mo P M dn) d (dn + 1) else dn) ∧ (if qv_mo P M dn = qv_mo P M dn then qv_en P M (qv_mo P M dn) d (dn + 1) else dn) ≤ P.length
  rw [if_pos rfl]
  have t := qv_en_le P M (qv_mo P M dn) d (dn + 1)
  omega
section
variable {c cd cc : Int32} {a1 a2 a3 a4 a5 a6 a7 a8 a9 a10 a11 a12 a13 a14 a15 a16 a17 : Nat → Int32}
theorem qv_marginOf {post : Int32 → Prop} {P : List (Nat × Nat)} {k : Nat} (h : qv_cpl P cc a10 a11) (hk : k < P.length) (H : post (qv_mo P a4 k)) : wpX_marginOf post (c, cd, cc, a1, a2, a3, a4, a5, a6, a7, a8, a9, a10, a11, a12, a13, a14, a15, a16, a17) (nI k) := by
  obtain ⟨h1, h2, h3, h4⟩ := h
  obtain ⟨p1, p2⟩ := h3 k hk
  obtain ⟨q1, q2⟩ := h4 k
  refine ⟨pk_in k 10 (by omega), pk_in k 10 (by omega), ?_⟩
  rw [nI_clamp (show k < 2 ^ 31 by omega), p1, p2, qv_ixc (by omega) (by omega)]
  exact ⟨pk_in (5 * qv_pa P k + qv_pb P k) 25 (by omega) (qv_ix _ _), H⟩
theorem qv_unbeaten {post : Int32 → Prop} {P : List (Nat × Nat)} {x : Int32} (h : qv_cpl P cc a10 a11) (H : post (qv_unb P x)) : wpX_unbeaten post (c, cd, cc, a1, a2, a3, a4, a5, a6, a7, a8, a9, a10, a11, a12, a13, a14, a15, a16, a17) x := by
  unfold qv_unb at H
  obtain ⟨h1, h2, h3, h4⟩ := h
  subst h2
  refine qv_fo (fun n z s => wX_unbeaten_5 post x c cd (nI P.length) a1 a2 a3 a4 a5 a6 a7 a8 a9 a10 a11 a12 a13 a14 a15 a16 a17 n s z) (qv_ubs P x) P.length 31 ?_ (fun n => br_t (nI_le (Nat.le_refl _) (by omega)) H)
  intro n k s hk hw
  unfold qv_ubs at hw
  obtain ⟨p1, p2⟩ := h3 k hk
  refine br_f (nI_ge hk (by omega)) (br_c (fun z => nm_r (nI_1 k) ?_) (fun z => ⟨pk_in k 10 (by omega), ?_⟩))
  · have z' : qv_b x (nI k) = 0 := z
    rw [if_pos z'] at hw; exact hw
  · have z' : ¬ qv_b x (nI k) = 0 := z
    rw [if_neg z'] at hw
    rw [nI_clamp (show k < 2 ^ 31 by omega), p2]
    exact nm_e (nm_r (nI_1 k) hw)
theorem qv_bc52 {post : Int32 → St2 → Prop} {J : Int32 → Int32 → Int32 → Int32 → (Nat → Int32) → (Nat → Int32) → (Nat → Int32) → (Nat → Int32) → (Nat → Int32) → (Nat → Int32) → (Nat → Int32) → (Nat → Int32) → (Nat → Int32) → (Nat → Int32) → (Nat → Int32) → (Nat → Int32) → (Nat → Int32) → (Nat → Int32) → (Nat → Int32) → (Nat → Int32) → (Nat → Int32) → Prop}
    {P : List (Nat × Nat)} {x mg : Int32} (h : qv_cpl P cc a10 a11) : ∀ (d e : Nat), e + d = P.length → wX_byCouples_75 post J x (nI (qv_en P a4 mg d e)) c cd cc a1 a2 a3 a4 a5 a6 a7 a8 a9 a10 a11 a12 a13 a14 a15 a16 a17 → wX_byCouples_52 post J x mg c cd cc a1 a2 a3 a4 a5 a6 a7 a8 a9 a10 a11 a12 a13 a14 a15 a16 a17 (d + 1) (nI e) := by
  have hl := h.1
  have hc := h.2.1
  intro d
  induction d with
  | zero =>
    intro e he H
    refine br_t ?_ H
    rw [hc]
    exact nI_le (by omega) (by omega)
  | succ d ih =>
    intro e he H
    have H' : wX_byCouples_75 post J x (nI (if qv_mo P a4 e = mg then qv_en P a4 mg d (e + 1) else e)) c cd cc a1 a2 a3 a4 a5 a6 a7 a8 a9 a10 a11 a12 a13 a14 a15 a16 a17 := H
    refine br_f ?_ (qv_marginOf h (by omega) (br_c (fun z => nm_r (nI_1 e) (ih (e + 1) (by omega) ?_)) (fun z => ?_)))
    · rw [hc]
      exact nI_ge (by omega) (by omega)
    · rw [if_pos z] at H'; exact H'
    · rw [if_neg z] at H'; exact H'
theorem qv_bc36 {post : Int32 → St2 → Prop} {P : List (Nat × Nat)} (h : qv_cpl P cc a10 a11) : ∀ (f dn n : Nat) (b9 b12 b13 : Nat → Int32), P.length - dn < f → P.length - dn < n → dn ≤ P.length → qv_tz 5 b9 → qv_tz 1024 b12 → qv_tz 1024 b13 →
    (∀ b9' b13', qv_tz 5 b9' → qv_tz 1024 (qv_bc P a4 f dn b12) → qv_tz 1024 b13' → ∃ fu, wX_byCouples_96 post c cd cc a1 a2 a3 a4 a5 a6 a7 a8 b9' a10 a11 (qv_bc P a4 f dn b12) b13' a14 a15 a16 a17 fu 0 0) →
    wX_byCouples_36 post n (nI dn) c cd cc a1 a2 a3 a4 a5 a6 a7 a8 b9 a10 a11 b12 b13 a14 a15 a16 a17 := by
  have hl := h.1
  have hc := h.2.1
  intro f
  induction f with
  | zero => intro dn n b9 b12 b13 hf; exact absurd hf (by omega)
  | succ f ih =>
    intro dn n b9 b12 b13 hf hn hd t9 t12 t13 H
    obtain ⟨m, rfl⟩ : ∃ m, n = m + 1 := ⟨n - 1, by omega⟩
    have E : qv_bc P a4 (f + 1) dn b12 = if P.length ≤ dn then b12 else qv_bc P a4 f (qv_e1 P a4 dn) (qv_gp P b12 dn (2 ^ qv_e1 P a4 dn - 2 ^ dn)) := rfl
    rw [E] at H
    by_cases z : P.length ≤ dn
    · rw [if_pos z] at H
      refine br_t ?_ (H b9 b13 t9 t12 t13)
      rw [hc]
      exact nI_le z (by omega)
    · rw [if_neg z] at H
      obtain ⟨g1, g2⟩ := qv_e1_lt (P := P) (M := a4) (dn := dn) (by omega)
      have p1 : 2 ^ qv_e1 P a4 dn ≤ 2 ^ 10 := Nat.pow_le_pow_right (by omega) (by omega)
      have p2 : 2 ^ dn ≤ 2 ^ qv_e1 P a4 dn := Nat.pow_le_pow_right (by omega) (by omega)
      have p3 : 0 < 2 ^ dn := Nat.two_pow_pos dn
      have hbo := qv_gp_bo (P := P) (A := b12) (first := dn) (g := 2 ^ qv_e1 P a4 dn - 2 ^ dn) (by omega) (by omega)
      refine br_f ?_ (qv_marginOf h (by omega) ⟨P.length - dn + 1, qv_bc52 h (P.length - dn) dn (by omega) ?_⟩)
      · rw [hc]
        exact nI_ge (by omega) (by omega)
      · show wX_byCouples_75 post (wX_byCouples_36 post m) (nI dn) (nI (qv_e1 P a4 dn)) c cd cc a1 a2 a3 a4 a5 a6 a7 a8 b9 a10 a11 b12 b13 a14 a15 a16 a17
        unfold wX_byCouples_75
        rw [qv_sh1 _ (by omega), qv_sh1 dn (by omega), pk_sub p2]
        exact qv_addGroup (by omega) (by omega) h t9 t12 t13 (fun b9' t9' => ih _ m b9' _ _ (by omega) (by omega) g2 t9' hbo.2 hbo.2 H)
theorem qv_byCouples {post : Int32 → St2 → Prop} {K : (Nat → Bool) → Nat} (hK : ∀ p, K p ≤ 9) (e4 : a4 = qv_M K) (t9 : qv_tz 5 a9) (t12 : qv_tz 1024 a12) (t13 : qv_tz 1024 a13)
    (H : ∀ cc' b9 b10 b11 b12 b13, qv_tz 5 b9 → qv_tz 1024 b12 → qv_tz 1024 b13 → post (qv_byc K) (c, cd, cc', a1, a2, a3, a4, a5, a6, a7, a8, b9, b10, b11, b12, b13, a14, a15, a16, a17)) : wpX_byCouples post (c, cd, cc, a1, a2, a3, a4, a5, a6, a7, a8, a9, a10, a11, a12, a13, a14, a15, a16, a17) := by
  unfold wpX_byCouples
  dsimp only
  refine qv_list hK e4 (fun cc' b10 b11 h => ?_)
  refine qv_up (fun n z s => wX_byCouples_6 post c cd cc' n z a1 a2 a3 a4 a5 a6 a7 a8 a9 b10 b11 s a13 a14 a15 a16 a17) (fun i s => (∀ k, k < i → s k = qv_A0 k) ∧ qv_tz 1024 s) 0 1024 a12 (by omega) ⟨fun k hk => absurd hk (by omega), t12⟩ ?_ ?_
  · intro n i s _ hi ⟨i1, i2⟩ hw
    refine br_f (nI_ge (b := 1024) hi (by decide)) (pk_eq i 0 (fun z => ⟨pk_in i 1024 hi, nm_r (e' := upd s i 1) (by rw [nI_clamp (show i < 2 ^ 31 by omega)]) (nm_r (nI_1 i) (hw _ ⟨qv_fill rfl i1 ?_, qv_tz_upd i2 hi⟩))⟩) (fun z => ⟨pk_in i 1024 hi, nm_r (e' := upd s i 0) (by rw [nI_clamp (show i < 2 ^ 31 by omega)]) (nm_r (nI_1 i) (hw _ ⟨qv_fill rfl i1 ?_, qv_tz_upd i2 hi⟩))⟩))
    · unfold qv_A0; rw [if_pos z]
    · unfold qv_A0; rw [if_neg z]
  · intro n s ⟨i1, i2⟩
    have e : s = qv_A0 := qv_ext i2 (fun k hk => if_neg (by omega)) i1
    subst e
    refine br_t (nI_le (a := 1024) (Nat.le_refl _) (by omega)) ⟨11, ?_⟩
    have hl := h.1
    refine qv_bc36 h 11 0 11 a9 qv_A0 a13 (by omega) (by omega) (by omega) t9 i2 t13 (fun b9 b13 u9 u12 u13 => ?_)
    have HH := H cc' b9 b10 b11 _ b13 u9 u12 u13
    unfold qv_byc qv_fin at HH
    rw [← e4] at HH
    generalize qv_bc (qv_cl' K 9) a4 11 0 qv_A0 = A at HH ⊢
    refine qv_fo (fun n z x => wX_byCouples_96 post c cd cc' a1 a2 a3 a4 a5 a6 a7 a8 b9 b10 b11 A b13 a14 a15 a16 a17 n x z) (fun k x => if A k = 0 then x else x ||| qv_unb (qv_cl' K 9) (nI k)) 1024 0 ?_ (fun n => br_t (nI_le (a := 1024) (Nat.le_refl _) (by omega)) HH)
    intro n k x hk hw
    refine br_f (nI_ge (b := 1024) hk (by decide)) ⟨pk_in k 1024 hk, ?_⟩
    rw [nI_clamp (show k < 2 ^ 31 by omega)]
    refine br_c (fun z => nm_r (nI_1 k) ?_) (fun z => qv_unbeaten h (nm_e (nm_r (nI_1 k) ?_)))
    · rw [if_pos z] at hw; exact hw
    · rw [if_neg z] at hw; exact hw
end
end
section
/-! winners, gain -/
def qv_WR (K : (Nat → Bool) → Nat) (n r : Nat) : Int32 :=
  if r ≤ 5 then qv_gs (qv_sc K n r) else if r ≤ 8 then qv_be K r else if r = 9 then qv_bs (qv_M K) else if r = 10 then qv_byc K else if r = 11 then nI (qv_ssm K) else if r = 12 then qv_ur (qv_B K) else if r = 13 then nI (qv_unc K) else qv_cf K
section
variable {c cd cc : Int32} {a1 a2 a3 a4 a5 a6 a7 a8 a9 a10 a11 a12 a13 a14 a15 a16 a17 : Nat → Int32}
theorem qv_winnersBy {post : Int32 → St2 → Prop} {L : List Nat} {r : Nat} (h : qv_ok L (c, cd, cc, a1, a2, a3, a4, a5, a6, a7, a8, a9, a10, a11, a12, a13, a14, a15, a16, a17)) (hr : r ≤ 14)
    (H : ∀ u, qv_okc L u → post (qv_WR (qv_cp L) L.length r) u) : wpX_winnersBy post (c, cd, cc, a1, a2, a3, a4, a5, a6, a7, a8, a9, a10, a11, a12, a13, a14, a15, a16, a17) (nI r) := by
  unfold wpX_winnersBy
  dsimp only
  refine qv_countAll h (fun u h' => ?_)
  obtain ⟨c, cd, cc, a1, a2, a3, a4, a5, a6, a7, a8, a9, a10, a11, a12, a13, a14, a15, a16, a17⟩ := u
  have hK : ∀ p, qv_cp L p ≤ 9 := fun p => Nat.le_trans (qv_cp_le L p) h'.1.1
  obtain ⟨hb, hcd, hcn, ht⟩ := h'
  obtain ⟨t4, t5, t7, t8, t9, t12, t13⟩ := ht
  obtain ⟨h3, e4, e5⟩ := hcn
  unfold qv_WR at H
  refine pk_le 6 r (fun z6 => ?_) (fun z6 => ?_)
  · rw [if_neg (by omega)] at H
    refine pk_le 9 r (fun z9 => ?_) (fun z9 => ?_)
    · rw [if_neg (by omega)] at H
      refine pk_eq r 9 (fun z => ?_) (fun z => ?_)
      · rw [if_pos z] at H
        exact qv_byStrength e4 t8 (fun b8 u8 => H _ ⟨hb, hcd, ⟨h3, e4, e5⟩, ⟨t4, t5, t7, u8, t9, t12, t13⟩⟩)
      rw [if_neg z] at H
      refine pk_eq r 10 (fun z => ?_) (fun z => ?_)
      · rw [if_pos z] at H
        exact qv_byCouples hK e4 t9 t12 t13 (fun cc' b9 b10 b11 b12 b13 u9 u12 u13 => H _ ⟨hb, hcd, ⟨h3, e4, e5⟩, ⟨t4, t5, t7, t8, u9, u12, u13⟩⟩)
      rw [if_neg z] at H
      refine pk_eq r 11 (fun z => ?_) (fun z => ?_)
      · rw [if_pos z] at H
        exact qv_smallest e5 (H _ ⟨hb, hcd, ⟨h3, e4, e5⟩, ⟨t4, t5, t7, t8, t9, t12, t13⟩⟩)
      rw [if_neg z] at H
      refine pk_eq r 12 (fun z => ?_) (fun z => ?_)
      · rw [if_pos z] at H
        exact qv_unret e5 t9 (fun b9 u9 => H _ ⟨hb, hcd, ⟨h3, e4, e5⟩, ⟨t4, t5, t7, t8, u9, t12, t13⟩⟩)
      rw [if_neg z] at H
      refine pk_eq r 13 (fun z => ?_) (fun z => ?_)
      · rw [if_pos z] at H
        exact qv_uncovered e5 (H _ ⟨hb, hcd, ⟨h3, e4, e5⟩, ⟨t4, t5, t7, t8, t9, t12, t13⟩⟩)
      rw [if_neg z] at H
      refine pk_eq r 14 (fun z => ?_) (fun z => absurd z (by omega))
      exact qv_chain e5 (H _ ⟨hb, hcd, ⟨h3, e4, e5⟩, ⟨t4, t5, t7, t8, t9, t12, t13⟩⟩)
    · rw [if_pos (by omega)] at H
      exact qv_byElim (L := L) (by omega) (by omega) ⟨hb, hcd, ⟨h3, e4, e5⟩, ⟨t4, t5, t7, t8, t9, t12, t13⟩⟩ (fun a6' a7' u7 => H _ ⟨hb, hcd, ⟨h3, e4, e5⟩, ⟨t4, t5, u7, t8, t9, t12, t13⟩⟩)
  · rw [if_pos (by omega)] at H
    exact qv_greatest (L := L) (by omega) ⟨hb, hcd, ⟨h3, e4, e5⟩, ⟨t4, t5, t7, t8, t9, t12, t13⟩⟩ (fun a6' => H _ ⟨hb, hcd, ⟨h3, e4, e5⟩, ⟨t4, t5, t7, t8, t9, t12, t13⟩⟩)
theorem qv_winners {post : Int32 → St2 → Prop} {L : List Nat} {r : Nat} (h : qv_ok L (c, cd, cc, a1, a2, a3, a4, a5, a6, a7, a8, a9, a10, a11, a12, a13, a14, a15, a16, a17)) (hr : r ≤ 14)
    (H : ∀ u, qv_okc L u → post (qv_WR (qv_cp L) L.length r) u) : wpX_winners post (c, cd, cc, a1, a2, a3, a4, a5, a6, a7, a8, a9, a10, a11, a12, a13, a14, a15, a16, a17) (nI r) := by
  refine br_f (nI_pos (by omega)) (br_t (nI_le (b := 16) (by omega) (by omega)) (qv_winnersBy h hr (fun u h' => ?_)))
  obtain ⟨c, cd, cc, a1, a2, a3, a4, a5, a6, a7, a8, a9, a10, a11, a12, a13, a14, a15, a16, a17⟩ := u
  exact H _ h'
theorem qv_agree {post : Int32 → St2 → Prop} {L : List Nat} {r s : Nat} (h : qv_ok L (c, cd, cc, a1, a2, a3, a4, a5, a6, a7, a8, a9, a10, a11, a12, a13, a14, a15, a16, a17)) (hr : r ≤ 14) (hs : s ≤ 14)
    (H : ∀ u, qv_okc L u → post (qv_oI (decide (qv_WR (qv_cp L) L.length r = qv_WR (qv_cp L) L.length s))) u) : wpX_agree post (c, cd, cc, a1, a2, a3, a4, a5, a6, a7, a8, a9, a10, a11, a12, a13, a14, a15, a16, a17) (nI r) (nI s) := by
  refine br_f (nI_pos (by omega)) (br_f (nI_nlt (a := 16) (by omega) (by omega)) (br_f (nI_pos (by omega)) (br_t (nI_le (b := 16) (by omega) (by omega)) (qv_winnersBy h hr (fun u h' => ?_)))))
  obtain ⟨cx, cdx, ccx, a1x, a2x, a3x, a4x, a5x, a6x, a7x, a8x, a9x, a10x, a11x, a12x, a13x, a14x, a15x, a16x, a17x⟩ := u
  refine qv_winnersBy (qv_okc_ok h') hs (fun u h2 => ?_)
  obtain ⟨cy, cdy, ccy, a1y, a2y, a3y, a4y, a5y, a6y, a7y, a8y, a9y, a10y, a11y, a12y, a13y, a14y, a15y, a16y, a17y⟩ := u
  have H2 := H _ h2
  refine br_c (fun z => ?_) (fun z => ?_)
  · rw [decide_eq_true z] at H2; exact H2
  · rw [decide_eq_false z] at H2; exact H2
theorem qv_ok_set {L : List Nat} {i o : Nat} (h : qv_ok L (c, cd, cc, a1, a2, a3, a4, a5, a6, a7, a8, a9, a10, a11, a12, a13, a14, a15, a16, a17)) (hi : i < L.length) (ho : qv_vo o = true) : qv_ok (L.set i o) (c, 0, cc, upd a1 i (nI o), qv_p5 a2 i o, a3, a4, a5, a6, a7, a8, a9, a10, a11, a12, a13, a14, a15, a16, a17) :=
  ⟨qv_bal_set hi ho h.1, fun z => absurd rfl z, h.2.2⟩
def qv_bt (L : List Nat) (i r o : Nat) : Prop := qv_bp (L.getD i 0) (qv_ms (qv_WR (qv_cp (L.set i o)) L.length r)) < qv_bp (L.getD i 0) (qv_ms (qv_WR (qv_cp L) L.length r))
theorem qv_gain118 {post : Int32 → St2 → Prop} {L : List Nat} {i o : Nat} {x : Int32} (hi : i < L.length) (h : qv_ok (L.set i o) (c, cd, cc, a1, a2, a3, a4, a5, a6, a7, a8, a9, a10, a11, a12, a13, a14, a15, a16, a17)) (hb : qv_vo (L.getD i 0) = true)
    (H : ∀ u, qv_ok L u → post x u) : wX_gain_118 post (nI i) (nI (L.getD i 0)) x c cd cc a1 a2 a3 a4 a5 a6 a7 a8 a9 a10 a11 a12 a13 a14 a15 a16 a17 := by
  have hl : L.length ≤ 9 := by
    have t := h.1.1
    rwa [List.length_set] at t
  refine qv_put (by omega) (qv_vo_lt hb) (H _ ?_)
  have t := qv_ok_set h (by rw [List.length_set]; exact hi) hb
  rw [List.set_set, qv_set_self hi] at t
  exact t
theorem qv_gain57 {post : Int32 → St2 → Prop} {L : List Nat} {i r : Nat} (hi : i < L.length) (hr : r ≤ 14) (hb : qv_vo (L.getD i 0) = true)
    (H0 : (∀ o, qv_vo o = true → ¬ qv_bt L i r o) → ∀ u, qv_ok L u → post (-1002) u)
    (H1 : ∀ g, qv_vo g = true → qv_bt L i r g → (∀ o, o < g → qv_vo o = true → ¬ qv_bt L i r o) → ∀ u, qv_ok L u → post (nI g) u) :
    ∀ (d o o' : Nat) (c cd cc : Int32) (a1 a2 a3 a4 a5 a6 a7 a8 a9 a10 a11 a12 a13 a14 a15 a16 a17 : Nat → Int32), o + d = 3125 → (∀ j, j < o → qv_vo j = true → ¬ qv_bt L i r j) → qv_ok (L.set i o') (c, cd, cc, a1, a2, a3, a4, a5, a6, a7, a8, a9, a10, a11, a12, a13, a14, a15, a16, a17) →
      wX_gain_57 post (nI r) (nI i) (nI (L.getD i 0)) (nI (qv_bp (L.getD i 0) (qv_ms (qv_WR (qv_cp L) L.length r)))) (d + 1) (-1002) (nI o) c cd cc a1 a2 a3 a4 a5 a6 a7 a8 a9 a10 a11 a12 a13 a14 a15 a16 a17 := by
  intro d
  induction d with
  | zero =>
    intro o o' c cd cc a1 a2 a3 a4 a5 a6 a7 a8 a9 a10 a11 a12 a13 a14 a15 a16 a17 ho hj h
    have e : o = 3125 := by omega
    subst e
    exact br_t (nI_le (a := 3125) (Nat.le_refl _) (by omega)) (qv_gain118 hi h hb (H0 (fun o hv => hj o (qv_vo_lt hv) hv)))
  | succ d ih =>
    intro o o' c cd cc a1 a2 a3 a4 a5 a6 a7 a8 a9 a10 a11 a12 a13 a14 a15 a16 a17 ho hj h
    have hl : L.length ≤ 9 := by
      have t := h.1.1
      rwa [List.length_set] at t
    refine br_f (nI_ge (b := 3125) (by omega) (by decide)) (br_f (by decide) (qv_isOrder (by omega) ?_))
    cases hv : qv_vo o with
    | false =>
      refine br_t rfl (nm_r (nI_1 o) (ih (o + 1) o' c cd cc a1 a2 a3 a4 a5 a6 a7 a8 a9 a10 a11 a12 a13 a14 a15 a16 a17 (by omega) (fun j hj' hv' => ?_) h))
      by_cases e : j = o
      · rw [e, hv] at hv'; exact absurd hv' (by decide)
      · exact hj j (by omega) hv'
    | true =>
      have h2 := qv_ok_set h (by rw [List.length_set]; exact hi) hv
      rw [List.set_set] at h2
      refine br_f (by decide) (qv_put (by omega) (qv_vo_lt hv) (qv_winnersBy h2 hr (fun u h3 => ?_)))
      obtain ⟨cx, cdx, ccx, a1x, a2x, a3x, a4x, a5x, a6x, a7x, a8x, a9x, a10x, a11x, a12x, a13x, a14x, a15x, a16x, a17x⟩ := u
      refine qv_bestPlace (qv_vo_lt hb) ?_
      rw [List.length_set]
      have l1 := qv_bp_lt (L.getD i 0) (qv_ms (qv_WR (qv_cp L) L.length r))
      have l2 := qv_bp_lt (L.getD i 0) (qv_ms (qv_WR (qv_cp (L.set i o)) L.length r))
      refine pk_le (qv_bp (L.getD i 0) (qv_ms (qv_WR (qv_cp L) L.length r))) (qv_bp (L.getD i 0) (qv_ms (qv_WR (qv_cp (L.set i o)) L.length r))) (fun z => nm_r (nI_1 o) (ih (o + 1) o cx cdx ccx a1x a2x a3x a4x a5x a6x a7x a8x a9x a10x a11x a12x a13x a14x a15x a16x a17x (by omega) (fun j hj' hv' => ?_) (qv_okc_ok h3))) (fun z => nm_r (nI_1 o) ?_)
      · by_cases e : j = o
        · rw [e]; exact Nat.not_lt.mpr z
        · exact hj j (by omega) hv'
      · have G := qv_gain118 (x := nI o) hi (qv_okc_ok h3) hb (H1 o hv z hj)
        have ho' := qv_vo_lt hv
        exact br_c (fun _ => G) (fun _ => br_t (nI_pos' (by omega)) G)
theorem qv_gain {post : Int32 → St2 → Prop} {L : List Nat} {i r : Nat} (h : qv_ok L (c, cd, cc, a1, a2, a3, a4, a5, a6, a7, a8, a9, a10, a11, a12, a13, a14, a15, a16, a17)) (hi : i < L.length) (hr : r ≤ 14)
    (H0 : (∀ o, qv_vo o = true → ¬ qv_bt L i r o) → ∀ u, qv_ok L u → post (-1002) u)
    (H1 : ∀ g, qv_vo g = true → qv_bt L i r g → (∀ o, o < g → qv_vo o = true → ¬ qv_bt L i r o) → ∀ u, qv_ok L u → post (nI g) u) : wpX_gain post (c, cd, cc, a1, a2, a3, a4, a5, a6, a7, a8, a9, a10, a11, a12, a13, a14, a15, a16, a17) (nI r) (nI i) := by
  have hl := h.1.1
  have hb : qv_vo (L.getD i 0) = true := h.1.2.1 _ (qv_getD_mem hi)
  have e := h.1.2.2.1
  have e1 := h.1.2.2.2.1 i hi
  subst e
  refine br_f (nI_pos (by omega)) (br_f (nI_nlt (a := 14) hr (by omega)) (br_f (nI_pos (by omega)) (br_t (nI_lt hi (by omega)) ⟨pk_in i 9 (by omega), nm_r (e' := nI (L.getD i 0)) (by rw [nI_clamp (by omega)]; exact e1) (qv_winnersBy h hr (fun u h2 => ?_))⟩)))
  obtain ⟨cx, cdx, ccx, a1x, a2x, a3x, a4x, a5x, a6x, a7x, a8x, a9x, a10x, a11x, a12x, a13x, a14x, a15x, a16x, a17x⟩ := u
  refine qv_bestPlace (qv_vo_lt hb) ⟨3126, qv_gain57 hi hr hb H0 H1 3125 0 (L.getD i 0) cx cdx ccx a1x a2x a3x a4x a5x a6x a7x a8x a9x a10x a11x a12x a13x a14x a15x a16x a17x (by omega) (fun j hj => absurd hj (by omega)) ?_⟩
  rw [qv_set_self hi]
  exact qv_okc_ok h2
end
end
section
/-! the law's own orders, places, margins -/
def qv_ist (x2 : Int32) (q : Nat) (t : Int32 × Int32) : Int32 × Int32 := if qv_b x2 (nI q) = 1 then (if t.1 = 0 then (if 0 ≤ t.2 then (t.1 + (-1), t.2) else (t.1 + (-1), nI q)) else (t.1 + (-1), t.2)) else t
def qv_tk (x1 x2 x4 : Int32) : Int32 := (qv_it (qv_ist x2) 5 (x1 / x4, -1)).2
def qv_ost (x4 : Int32) (t : Int32 × Int32 × Int32) : Int32 × Int32 × Int32 := (t.1 - t.1 / x4 * x4, t.2.1 &&& (((1 : Int32) <<< (qv_tk t.1 t.2.1 x4 &&& 31)) ^^^ (-1)), 5 * t.2.2 + qv_tk t.1 t.2.1 x4)
def qv_o32 (p : Int32) : Int32 := (qv_ost 1 (qv_ost 1 (qv_ost 2 (qv_ost 6 (qv_ost 24 (p, 31, 0)))))).2.2
def qv_od (p : Nat) : Nat := (qv_o32 (nI p)).toNatClampNeg
theorem qv_od_tab : ∀ p, p < 120 → qv_o32 (nI p) = nI (qv_od p) ∧ qv_vo (qv_od p) = true := by decide +kernel
theorem qv_o14 {post : Int32 → Prop} {n : Nat} {x4 x5 y4 y5 : Int32} {t : Int32 × Int32 × Int32} (h0 : ¬ x5 < 0) (h4 : ¬ x4 = 0) (h : (x5 ≤ 1 ∧ y4 = 1) ∨ (¬ x5 ≤ 1 ∧ ¬ x5 = 0 ∧ x4 / x5 = y4)) (hy : x5 + (-1) = y5)
    (H : wL_order_14 post n (qv_ost x4 t).1 (qv_ost x4 t).2.1 (qv_ost x4 t).2.2 y4 y5) : wL_order_14 post (n + 1) t.1 t.2.1 t.2.2 x4 x5 := by
  obtain ⟨x1, x2, x3⟩ := t
  unfold qv_ost qv_tk at H
  dsimp only at H ⊢
  refine br_f h0 ⟨h4, nm_e ?_⟩
  refine qv_fo (σ := Int32 × Int32) (fun n' z s => wL_order_31 post (wL_order_14 post n) x1 x2 x3 x4 x5 n' s.1 s.2 z) (qv_ist x2) 5 (x1 / x4, -1) ?_ ?_
  · intro n' q s hq hw
    unfold qv_ist at hw
    refine br_f (nI_ge (b := 5) hq (by decide)) (br_c (fun z => br_c (fun z2 => br_c (fun z3 => nm_e (nm_r (nI_1 q) ?_)) (fun z3 => nm_e (nm_r (nI_1 q) ?_))) (fun z2 => nm_e (nm_r (nI_1 q) ?_))) (fun z => nm_r (nI_1 q) ?_))
    · have z' : qv_b x2 (nI q) = 1 := z
      rw [if_pos z', if_pos z2, if_pos z3] at hw; exact hw
    · have z' : qv_b x2 (nI q) = 1 := z
      rw [if_pos z', if_pos z2, if_neg z3] at hw; exact hw
    · have z' : qv_b x2 (nI q) = 1 := z
      rw [if_pos z', if_neg z2] at hw; exact hw
    · have z' : ¬ qv_b x2 (nI q) = 1 := z
      rw [if_neg z'] at hw; exact hw
  · intro n'
    show wL_order_31 post (wL_order_14 post n) x1 x2 x3 x4 x5 (n' + 1) (qv_it (qv_ist x2) 5 (x1 / x4, -1)).1 (qv_it (qv_ist x2) 5 (x1 / x4, -1)).2 (nI 5)
    generalize qv_it (qv_ist x2) 5 (x1 / x4, -1) = k at H ⊢
    refine br_t (nI_le (a := 5) (Nat.le_refl _) (by omega)) (nm_e (nm_e ⟨h4, nm_e ?_⟩))
    rcases h with ⟨h1, h2⟩ | ⟨h1, h2, h3⟩
    · subst h2
      exact br_t h1 (nm_r hy H)
    · exact br_f h1 ⟨h2, nm_r h3 (nm_r hy H)⟩
theorem qv_lorder {post : Int32 → Prop} {p : Nat} (hp : p < 120) (H : post (nI (qv_od p))) : wpL_order post () (nI p) := by
  have e := (qv_od_tab p hp).1
  unfold qv_o32 at e
  rw [← e] at H
  clear e
  refine ⟨6, ?_⟩
  refine qv_o14 (t := (nI p, 31, 0)) (y4 := 6) (y5 := 3) (by decide) (by decide) (Or.inr ⟨by decide, by decide, by decide⟩) (by decide) ?_
  generalize qv_ost 24 (nI p, 31, 0) = t1 at H ⊢
  refine qv_o14 (t := t1) (y4 := 2) (y5 := 2) (by decide) (by decide) (Or.inr ⟨by decide, by decide, by decide⟩) (by decide) ?_
  generalize qv_ost 6 t1 = t2 at H ⊢
  refine qv_o14 (t := t2) (y4 := 1) (y5 := 1) (by decide) (by decide) (Or.inr ⟨by decide, by decide, by decide⟩) (by decide) ?_
  generalize qv_ost 2 t2 = t3 at H ⊢
  refine qv_o14 (t := t3) (y4 := 1) (y5 := 0) (by decide) (by decide) (Or.inl ⟨by decide, rfl⟩) (by decide) ?_
  generalize qv_ost 1 t3 = t4 at H ⊢
  refine qv_o14 (t := t4) (y4 := 1) (y5 := -1) (by decide) (by decide) (Or.inl ⟨by decide, rfl⟩) (by decide) ?_
  generalize qv_ost 1 t4 = t5 at H ⊢
  exact br_t (by decide) H
def qv_z (w u : Int32) (k : Nat) : Int32 := if 5 ≤ k then u >>> ((5 * (nI k - 5)) &&& 31) else w >>> ((5 * nI k) &&& 31)
def qv_bl (w u : Int32) (k : Nat) : Nat := qv_od ((qv_z w u k &&& 255).toNatClampNeg % 120)
theorem qv_bl_vo (w u : Int32) (k : Nat) : qv_vo (qv_bl w u k) = true := (qv_od_tab _ (Nat.mod_lt _ (by omega))).2
theorem qv_lballot {post : Int32 → Prop} {w u : Int32} {k : Nat} (hk : k < 2 ^ 31) (H : post (nI (qv_bl w u k))) : wpL_ballot post () w u (nI k) := by
  have key : ∀ z : Int32, post (nI (qv_od ((z &&& 255).toNatClampNeg % 120))) → wL_ballot_20 post z := by
    intro z h
    obtain ⟨j, hj, e⟩ := pk_andE z (m := 255) 8 (by decide)
    rw [e, nI_clamp (by omega)] at h
    refine ⟨by decide, ?_⟩
    rw [e, show nI j - nI j / 120 * 120 = nI (j % 120) from pk_rem (d := 120) (by omega) (by omega) (by omega)]
    exact qv_lorder (Nat.mod_lt _ (by omega)) h
  unfold qv_bl qv_z at H
  refine pk_le 5 k (fun z => key _ ?_) (fun z => key _ ?_)
  · rw [if_pos z] at H; exact H
  · rw [if_neg (by omega)] at H; exact H
theorem qv_lplace {post : Int32 → Prop} {o q : Nat} (ho : o < 3125) (hq : q < 5) (H : post (nI (qv_pl o q))) : wpL_place post () (nI o) (nI q) := by
  have d1 : nI o / 625 = nI (o / 625) := pk_div (d := 625) (by omega) (by omega) (by omega)
  have d2 : nI o / 125 = nI (o / 125) := pk_div (d := 125) (by omega) (by omega) (by omega)
  have d3 : nI o / 25 = nI (o / 25) := pk_div (d := 25) (by omega) (by omega) (by omega)
  have d4 : nI o / 5 = nI (o / 5) := pk_div (d := 5) (by omega) (by omega) (by omega)
  have r2 : nI (o / 125) - nI (o / 125) / 5 * 5 = nI (o / 125 % 5) := pk_rem (d := 5) (by omega) (by omega) (by omega)
  have r3 : nI (o / 25) - nI (o / 25) / 5 * 5 = nI (o / 25 % 5) := pk_rem (d := 5) (by omega) (by omega) (by omega)
  have r4 : nI (o / 5) - nI (o / 5) / 5 * 5 = nI (o / 5 % 5) := pk_rem (d := 5) (by omega) (by omega) (by omega)
  unfold qv_pl at H
  unfold wpL_place
  rw [d1, d2, d3, d4, r2, r3, r4]
  refine ⟨by decide, pk_eq (o / 625) q (fun z => ?_) (fun z => ⟨by decide, by decide, pk_eq (o / 125 % 5) q (fun z2 => ?_) (fun z2 => ⟨by decide, by decide, pk_eq (o / 25 % 5) q (fun z3 => ?_) (fun z3 => ⟨by decide, by decide, pk_eq (o / 5 % 5) q (fun z4 => ?_) (fun z4 => ?_)⟩)⟩)⟩)⟩
  · rw [if_pos z] at H; exact H
  · rw [if_neg z, if_pos z2] at H; exact H
  · rw [if_neg z, if_neg z2, if_pos z3] at H; exact H
  · rw [if_neg z, if_neg z2, if_neg z3, if_pos z4] at H; exact H
  · rw [if_neg z, if_neg z2, if_neg z3, if_neg z4] at H; exact H
def qv_LL (w u : Int32) (n : Nat) : List Nat := (List.range n).map (qv_bl w u)
theorem qv_LL_s (w u : Int32) (n : Nat) : qv_LL w u (n + 1) = qv_LL w u n ++ [qv_bl w u n] := by
  unfold qv_LL
  rw [List.range_succ, List.map_append]
  rfl
theorem qv_LL_len (w u : Int32) (n : Nat) : (qv_LL w u n).length = n := by
  unfold qv_LL
  rw [List.length_map, List.length_range]
theorem qv_LL_at {w u : Int32} {n i : Nat} (h : i < n) : (qv_LL w u n).getD i 0 = qv_bl w u i := by
  unfold qv_LL
  rw [List.getD_eq_getElem?_getD, List.getElem?_map, List.getElem?_range h]
  rfl
theorem qv_dif0' : ∀ x, x < 10 → ∀ y, y < 10 → (0 ≤ nI x - nI y ↔ y ≤ x) := by decide +kernel
theorem qv_al1 (p q : Nat) : (nI p - nI q) + (-1) = nI p - nI (q + 1) := by
  rw [nI_succ]
  generalize nI p = x
  generalize nI q = y
  grind
theorem qv_al2 (p q : Nat) : (nI p - nI q) + 1 = nI (p + 1) - nI q := by
  rw [nI_succ]
  generalize nI p = x
  generalize nI q = y
  grind
theorem qv_C_app (L : List Nat) (o a b : Nat) : qv_C (qv_cp (L ++ [o])) a b = qv_C (qv_cp L) a b + (if qv_pl o a < qv_pl o b then 1 else 0) := by
  unfold qv_C qv_cp
  rw [qv_cnt1]
  unfold qv_pf
  by_cases t : qv_pl o a < qv_pl o b
  · rw [if_pos t, if_pos (decide_eq_true t)]
  · rw [if_neg t, if_neg (fun z => t (of_decide_eq_true z))]
theorem qv_lmargin {post : Int32 → Prop} {w u : Int32} {n a b : Nat} (hn : n ≤ 9) (ha : a < 5) (hb : b < 5) (H : post (nI (qv_C (qv_cp (qv_LL w u n)) a b) - nI (qv_C (qv_cp (qv_LL w u n)) b a))) : wpL_margin post () w u (nI n) (nI a) (nI b) := by
  refine qv_up (fun n' z x => wL_margin_6 post w u (nI n) (nI a) (nI b) n' x z) (fun k x => x = nI (qv_C (qv_cp (qv_LL w u k)) a b) - nI (qv_C (qv_cp (qv_LL w u k)) b a)) 0 n 0 (Nat.zero_le _) (show (0 : Int32) = nI 0 - nI 0 by decide) ?_ ?_
  · intro n' k x _ hk hx hw
    subst hx
    have hv := qv_bl_vo w u k
    have ho := qv_vo_lt hv
    have la := qv_pl_lt hv ha
    have lb := qv_pl_lt hv hb
    rw [qv_LL_s, qv_C_app, qv_C_app] at hw
    refine br_f (nI_ge hk (by omega)) (qv_lballot (by omega) (qv_lplace ho hb (qv_lplace ho ha (nm_e ?_))))
    refine ek_if (qv_dif0 _ (by omega) _ (by omega)) (fun z => ek_if (qv_dif0' _ (by omega) _ (by omega)) (fun z2 => nm_r (Int32.add_zero _) (nm_r (nI_1 k) (hw _ ?_))) (fun z2 => nm_r (qv_al1 _ _) (nm_r (nI_1 k) (hw _ ?_)))) (fun z => nm_r (qv_al2 _ _) (nm_r (nI_1 k) (hw _ ?_)))
    · rw [if_neg (by omega), if_neg (by omega)]
      rfl
    · rw [if_neg (by omega), if_pos (by omega)]
      rfl
    · rw [if_pos (by omega), if_neg (by omega)]
      rfl
  · intro n' x hx
    subst hx
    exact br_t (nI_le (Nat.le_refl _) (by omega)) H
def qv_bq (K : (Nat → Bool) → Nat) (k : Nat) : Bool := decide (qv_C K (k % 5) (k / 5) < qv_C K (k / 5) (k % 5))
def qv_bts (K : (Nat → Bool) → Nat) : Nat := qv_mk (qv_bq K) 25
theorem qv_lbeaten {post : Int32 → Prop} {w u : Int32} {n : Nat} (hn : n ≤ 9) (H : post (nI (qv_bts (qv_cp (qv_LL w u n))))) : wpL_beaten post () w u (nI n) := by
  have hK : ∀ p, qv_cp (qv_LL w u n) p < 10 := fun p => Nat.lt_of_le_of_lt (qv_cp_le _ p) (by rw [qv_LL_len]; omega)
  generalize hKe : qv_cp (qv_LL w u n) = K at H hK
  unfold qv_bts at H
  refine qv_up (fun n' z x => wL_beaten_5 post w u (nI n) n' x z) (fun k x => x = nI (qv_mk (qv_bq K) k)) 0 25 0 (by omega) rfl ?_ ?_
  · intro n' k x _ hk hx hw
    subst hx
    have d1 : nI k / 5 = nI (k / 5) := pk_div (d := 5) (by omega) (by omega) (by omega)
    have d2 : nI k - nI (k / 5) * 5 = nI (k % 5) := by
      rw [← d1]
      exact pk_rem (d := 5) (by omega) (by omega) (by omega)
    refine br_f (nI_ge (b := 25) hk (by decide)) ⟨by decide, by decide, ?_⟩
    rw [d1, d2]
    refine qv_lmargin hn (by omega) (Nat.mod_lt _ (by omega)) ?_
    rw [hKe]
    refine ek_if (qv_dif0 _ (hK _) _ (hK _)) (fun z => nm_r (nI_1 k) (hw _ ?_)) (fun z => nm_e (nm_r (nI_1 k) (hw _ ?_)))
    · show nI (qv_mk (qv_bq K) k) = nI (qv_mk (qv_bq K) k ||| (if qv_bq K k = true then 2 ^ k else 0))
      have t : ¬ qv_bq K k = true := fun t => absurd (of_decide_eq_true t) (Nat.not_lt.mpr z)
      rw [if_neg t, Nat.or_zero]
    · show _ = nI (qv_mk (qv_bq K) k ||| (if qv_bq K k = true then 2 ^ k else 0))
      have t : qv_bq K k = true := decide_eq_true (Nat.lt_of_not_le z)
      rw [if_pos t, qv_sh1 k (by omega), qv_nor]
  · intro n' x hx
    subst hx
    exact br_t (nI_le (a := 25) (Nat.le_refl _) (by omega)) H
theorem qv_row (K : (Nat → Bool) → Nat) {a : Nat} (ha : a < 5) : (nI (qv_bts K) >>> ((5 * nI a) &&& 31)) &&& 31 = nI (qv_Bn K a 5) := by
  have e1 : (5 : Int32) * nI a = nI (5 * a) := pk_mul 5 a
  have hl : qv_bts K < 2 ^ 25 := qv_mk_lt _ 25
  rw [e1, pk_shrN (by omega) _ (5 * a) (qv_shc (5 * a) (by omega))]
  have h1 : qv_bts K / 2 ^ (5 * a) < 2 ^ 32 := Nat.lt_of_le_of_lt (Nat.div_le_self _ _) (by omega)
  rw [pk_andN h1 (m := 31) 5 (by decide)]
  congr 1
  apply Nat.eq_of_testBit_eq
  intro i
  unfold qv_Bn
  rw [Nat.testBit_mod_two_pow, ← Nat.shiftRight_eq_div_pow, Nat.testBit_shiftRight, qv_mk_tb]
  unfold qv_bts
  rw [qv_mk_tb]
  by_cases hi : i < 5
  · rw [decide_eq_true hi, decide_eq_true (show 5 * a + i < 25 by omega)]
    unfold qv_bq
    rw [show (5 * a + i) % 5 = i by omega, show (5 * a + i) / 5 = a by omega]
    rfl
  · rw [decide_eq_false hi, Bool.false_and, Bool.false_and]
end
section
/-! the law's sets -/
def qv_sb (s : Nat) : Nat → Nat := qv_sum (fun i => if s.testBit i then 1 else 0)
theorem qv_sb_tab : ∀ s, s < 32 → qv_sb s 5 = qv_pc 10 s := by decide +kernel
theorem qv_pc5_tab : ∀ s, s < 32 → qv_pc 10 s ≤ 5 := by decide +kernel
theorem qv_cov_tab : ∀ x, x < 32 → ∀ s, s < 32 → (nI x &&& (nI s ^^^ (-1)) = 31 &&& (nI s ^^^ (-1)) ↔ x ||| s = 31) := by decide +kernel
theorem qv_sst_31 (K : (Nat → Bool) → Nat) {best : Nat} (h : best < 32) : qv_sst K 31 best = best := by
  unfold qv_sst
  have h1 := qv_pc5_tab best h
  have h2 : qv_pc 10 31 = 5 := by decide
  rw [if_neg (by omega)]
def qv_opf (K : (Nat → Bool) → Nat) (a b i : Nat) : Bool := decide (a < i) || qv_allb (qv_up2 K i) (if i = a then b else 5)
def qv_opn (K : (Nat → Bool) → Nat) (a b : Nat) : Nat := qv_mk (qv_opf K a b) 5
theorem qv_opn_0 (K : (Nat → Bool) → Nat) : qv_opn K 0 0 = 31 := by
  have e : qv_opn K 0 0 = qv_mk (fun _ => true) 5 := qv_mk_congr (fun i _ => by
    unfold qv_opf
    by_cases h : i = 0
    · rw [if_pos h]
      show (decide (0 < i) || true) = true
      rw [Bool.or_true]
    · rw [decide_eq_true (by omega), Bool.true_or])
  rw [e]
  decide
theorem qv_opn_next (K : (Nat → Bool) → Nat) (a : Nat) : qv_opn K a 5 = qv_opn K (a + 1) 0 := qv_mk_congr (fun i _ => by
  unfold qv_opf
  by_cases h : i = a + 1
  · rw [if_pos h, decide_eq_true (show a < i by omega), decide_eq_false (show ¬ a + 1 < i by omega)]
    rfl
  · rw [if_neg h]
    have e : decide (a < i) = decide (a + 1 < i) := by
      by_cases t : a < i
      · rw [decide_eq_true t, decide_eq_true (by omega)]
      · rw [decide_eq_false t, decide_eq_false (by omega)]
    rw [e]
    by_cases h2 : i = a
    · rw [if_pos h2]
    · rw [if_neg h2])
theorem qv_opn_5 (K : (Nat → Bool) → Nat) : qv_opn K 5 0 = qv_unc K := qv_mk_congr (fun i hi => by
  unfold qv_opf
  rw [decide_eq_false (by omega), Bool.false_or, if_neg (by omega)])
theorem qv_opn_lt (K : (Nat → Bool) → Nat) (a b : Nat) : qv_opn K a b < 32 := qv_mk_lt _ 5
theorem qv_opn_t {K : (Nat → Bool) → Nat} {a b : Nat} (h : qv_up2 K a b = true) : qv_opn K a (b + 1) = qv_opn K a b := qv_mk_congr (fun i _ => by
  unfold qv_opf
  by_cases e : i = a
  · subst e
    rw [if_pos rfl, if_pos rfl]
    show (_ || (qv_allb (qv_up2 K i) b && qv_up2 K i b)) = _
    rw [h, Bool.and_true]
  · rw [if_neg e, if_neg e])
theorem qv_clr_tb : ∀ q, q < 5 → ∀ i, i < 5 → (31 - 2 ^ q).testBit i = !decide (i = q) := by decide +kernel
theorem qv_opn_f {K : (Nat → Bool) → Nat} {a b : Nat} (ha : a < 5) (h : qv_up2 K a b = false) : qv_opn K a (b + 1) = qv_clr (qv_opn K a b) a := by
  apply Nat.eq_of_testBit_eq
  intro i
  unfold qv_clr qv_opn
  rw [Nat.testBit_and, qv_mk_tb, qv_mk_tb]
  by_cases hi : i < 5
  · rw [qv_clr_tb a ha i hi, decide_eq_true hi, Bool.true_and, Bool.true_and]
    unfold qv_opf
    by_cases e : i = a
    · subst e
      rw [if_pos rfl, if_pos rfl, decide_eq_false (Nat.lt_irrefl i), decide_eq_true rfl]
      show (false || (qv_allb (qv_up2 K i) b && qv_up2 K i b)) = _
      rw [h, Bool.and_false, Bool.not_true, Bool.and_false, Bool.or_false]
    · rw [if_neg e, if_neg e, decide_eq_false e, Bool.not_false, Bool.and_true]
  · rw [decide_eq_false hi, Bool.false_and, Bool.false_and, Bool.false_and]
def qv_ldf (K : (Nat → Bool) → Nat) (a : Nat) : Int32 := qv_it (fun q x => if qv_ld K q = true then nI q else x) a (-1002)
theorem qv_ld_beats {K : (Nat → Bool) → Nat} {p q : Nat} (hp : qv_ld K p = true) (hq : q < 5) (h : p ≠ q) : qv_C K q p < qv_C K p q := by
  have e : qv_Bn K p 5 ||| 2 ^ p = 31 := of_decide_eq_true hp
  have t : (qv_Bn K p 5 ||| 2 ^ p).testBit q = true := by
    rw [e]
    exact (by decide : ∀ q, q < 5 → (31 : Nat).testBit q = true) q hq
  rw [Nat.testBit_or, Nat.testBit_two_pow_of_ne h, Bool.or_false] at t
  unfold qv_Bn at t
  rw [qv_mk_tb, Bool.and_eq_true] at t
  exact of_decide_eq_true t.2
theorem qv_ld_uniq {K : (Nat → Bool) → Nat} {p q : Nat} (h5 : p < 5) (hq5 : q < 5) (hp : qv_ld K p = true) (hq : qv_ld K q = true) : p = q := by
  by_cases h : p = q
  · exact h
  · have h1 := qv_ld_beats hp hq5 h
    have h2 := qv_ld_beats hq h5 (Ne.symm h)
    omega
theorem qv_ldf_none {K : (Nat → Bool) → Nat} (h : ∀ q, q < 5 → qv_ld K q = false) : ∀ a, a ≤ 5 → qv_ldf K a = -1002 := by
  intro a
  induction a with
  | zero => intro _; rfl
  | succ a ih =>
    intro ha
    show (if qv_ld K a = true then nI a else qv_ldf K a) = _
    rw [if_neg (by rw [h a (by omega)]; decide), ih (by omega)]
theorem qv_ldf_one {K : (Nat → Bool) → Nat} {q : Nat} (hq : q < 5) (h : qv_ld K q = true) : ∀ a, a ≤ 5 → q < a → qv_ldf K a = nI q := by
  intro a
  induction a with
  | zero => intro _ h0; exact absurd h0 (by omega)
  | succ a ih =>
    intro ha hqa
    show (if qv_ld K a = true then nI a else qv_ldf K a) = _
    by_cases e : qv_ld K a = true
    · rw [if_pos e, qv_ld_uniq (by omega) hq e h]
    · rw [if_neg e]
      by_cases ea : q = a
      · subst ea; exact absurd h e
      · exact ih (by omega) (by omega)
section
variable {c cd cc : Int32} {a1 a2 a3 a4 a5 a6 a7 a8 a9 a10 a11 a12 a13 a14 a15 a16 a17 : Nat → Int32}
theorem qv_sets170 {post : Int32 → St2 → Prop} {J : Int32 → Int32 → Int32 → Prop} {K : (Nat → Bool) → Nat} {x2 x5 : Int32} {a : Nat} (ha : a < 5) (H : J (nI (qv_opn K a 5)) x5 (nI (a + 1))) :
    ∃ n, wL_sets_170 post J (nI (qv_bts K)) x2 x5 (nI a) (nI (qv_Bn K a 5)) c cd cc a1 a2 a3 a4 a5 a6 a7 a8 a9 a10 a11 a12 a13 a14 a15 a16 a17 n (nI (qv_opn K a 0)) 0 := by
  refine qv_up (fun n z x => wL_sets_170 post J (nI (qv_bts K)) x2 x5 (nI a) (nI (qv_Bn K a 5)) c cd cc a1 a2 a3 a4 a5 a6 a7 a8 a9 a10 a11 a12 a13 a14 a15 a16 a17 n x z) (fun b x => x = nI (qv_opn K a b)) 0 5 _ (by omega) rfl ?_ ?_
  · intro n b x _ hb hx hw
    subst hx
    have l1 := qv_Bn_lt K a
    have l2 := qv_Bn_lt K b
    refine br_f (nI_ge (b := 5) hb (by decide)) (nm_r (qv_row K hb) ?_)
    have e : (nI (qv_Bn K b 5) >>> (nI a &&& 31)) &&& 1 = qv_b (nI (qv_Bn K b 5)) (nI a) := rfl
    rw [e]
    refine ek_if (qv_b1 (by omega) (by omega)) (fun z => ek_if (qv_sub_tab _ l1 _ l2) (fun z2 => nm_r (qv_clr_tab _ (qv_opn_lt K a b) a ha) (nm_r (nI_1 b) (hw _ ?_))) (fun z2 => nm_r (nI_1 b) (hw _ ?_))) (fun z => nm_r (nI_1 b) (hw _ ?_))
    · rw [qv_opn_f ha]
      unfold qv_up2
      rw [z, decide_eq_true z2]
      rfl
    · rw [qv_opn_t]
      unfold qv_up2
      rw [decide_eq_false z2, Bool.not_false, Bool.or_true]
    · rw [qv_opn_t]
      unfold qv_up2
      rw [show (qv_Bn K b 5).testBit a = false by cases t : (qv_Bn K b 5).testBit a with
        | false => rfl
        | true => exact absurd t z]
      rfl
  · intro n x hx
    subst hx
    exact br_t (nI_le (a := 5) (Nat.le_refl _) (by omega)) (nm_r (nI_1 a) H)
theorem qv_sets134 {post : Int32 → St2 → Prop} {L : List Nat} (h : qv_ok L (c, cd, cc, a1, a2, a3, a4, a5, a6, a7, a8, a9, a10, a11, a12, a13, a14, a15, a16, a17)) (H : ∀ u, qv_ok L u → post 1 u) :
    ∀ (d a : Nat), a + d = 5 → wL_sets_134 post (nI (qv_bts (qv_cp L))) (nI (qv_ssm (qv_cp L))) c cd cc a1 a2 a3 a4 a5 a6 a7 a8 a9 a10 a11 a12 a13 a14 a15 a16 a17 (d + 1) (nI (qv_opn (qv_cp L) a 0)) (qv_ldf (qv_cp L) a) (nI a) := by
  intro d
  induction d with
  | zero =>
    intro a ha
    have e : a = 5 := by omega
    subst e
    rw [qv_opn_5]
    refine br_t (nI_le (a := 5) (Nat.le_refl _) (by omega)) ?_
    refine qv_winners (r := 11) h (by omega) (fun u h1 => ?_)
    obtain ⟨cx, cdx, ccx, a1x, a2x, a3x, a4x, a5x, a6x, a7x, a8x, a9x, a10x, a11x, a12x, a13x, a14x, a15x, a16x, a17x⟩ := u
    refine br_t rfl ?_
    refine qv_winners (r := 13) (qv_okc_ok h1) (by omega) (fun u h2 => ?_)
    obtain ⟨cy, cdy, ccy, a1y, a2y, a3y, a4y, a5y, a6y, a7y, a8y, a9y, a10y, a11y, a12y, a13y, a14y, a15y, a16y, a17y⟩ := u
    refine br_t rfl ?_
    refine qv_leader (qv_okc_ok h2) (fun hn u h3 => ?_) (fun q hq hl u h3 => ?_)
    · obtain ⟨cz, cdz, ccz, a1z, a2z, a3z, a4z, a5z, a6z, a7z, a8z, a9z, a10z, a11z, a12z, a13z, a14z, a15z, a16z, a17z⟩ := u
      exact br_t (qv_ldf_none hn 5 (by omega)).symm (H _ (qv_okc_ok h3))
    · obtain ⟨cz, cdz, ccz, a1z, a2z, a3z, a4z, a5z, a6z, a7z, a8z, a9z, a10z, a11z, a12z, a13z, a14z, a15z, a16z, a17z⟩ := u
      exact br_t (qv_ldf_one hq hl 5 (by omega) hq).symm (H _ (qv_okc_ok h3))
  | succ d ih =>
    intro a ha
    have ha5 : a < 5 := by omega
    have hl : qv_Bn (qv_cp L) a 5 ||| 2 ^ a < 2 ^ 5 := Nat.or_lt_two_pow (qv_Bn_lt _ a) (Nat.pow_lt_pow_right (by omega) ha5)
    have IH := ih (a + 1) (by omega)
    rw [← qv_opn_next] at IH
    have E : qv_ldf (qv_cp L) (a + 1) = if qv_ld (qv_cp L) a = true then nI a else qv_ldf (qv_cp L) a := rfl
    rw [E] at IH
    refine br_f (nI_ge (b := 5) ha5 (by decide)) (nm_r (qv_row _ ha5) ?_)
    rw [qv_sh1 a (by omega), qv_nor]
    refine pk_eq (qv_Bn (qv_cp L) a 5 ||| 2 ^ a) 31 (fun z => qv_sets170 ha5 ?_) (fun z => qv_sets170 ha5 ?_)
    · have t : qv_ld (qv_cp L) a = true := decide_eq_true z
      rw [if_pos t] at IH; exact IH
    · have t : ¬ qv_ld (qv_cp L) a = true := fun t => z (of_decide_eq_true t)
      rw [if_neg t] at IH; exact IH
theorem qv_sets24 {post : Int32 → St2 → Prop} {J : Int32 → Int32 → Int32 → Prop} {K : (Nat → Bool) → Nat} {best s : Nat} (hs : s < 32) (hb : best < 32)
    (H : J (nI (qv_sst K s best)) (nI (qv_pc 10 (qv_sst K s best))) (nI (s + 1))) :
    ∃ n, wL_sets_24 post J (nI (qv_bts K)) (nI best) (nI (qv_pc 10 best)) (nI s) c cd cc a1 a2 a3 a4 a5 a6 a7 a8 a9 a10 a11 a12 a13 a14 a15 a16 a17 n 1 0 0 := by
  have p1 := qv_pc_le 10 s
  have p2 := qv_pc_le 10 best
  refine qv_up (σ := Int32 × Int32) (fun n z t => wL_sets_24 post J (nI (qv_bts K)) (nI best) (nI (qv_pc 10 best)) (nI s) c cd cc a1 a2 a3 a4 a5 a6 a7 a8 a9 a10 a11 a12 a13 a14 a15 a16 a17 n t.1 t.2 z) (fun a t => t.1 = qv_oI (qv_allb (qv_sp K s) a) ∧ t.2 = nI (qv_sb s a)) 0 5 (1, 0) (by omega) ⟨rfl, rfl⟩ ?_ ?_
  · intro n a t _ ha ⟨i1, i2⟩ hw
    obtain ⟨t1, t2⟩ := t
    dsimp only at i1 i2 ⊢
    subst i1
    subst i2
    have l1 := qv_Bn_lt K a
    have e : (nI s >>> (nI a &&& 31)) &&& 1 = qv_b (nI s) (nI a) := rfl
    have key : ∀ y, y = nI (qv_sb s (a + 1)) → wL_sets_44 post J (wL_sets_24 post J (nI (qv_bts K)) (nI best) (nI (qv_pc 10 best)) (nI s) c cd cc a1 a2 a3 a4 a5 a6 a7 a8 a9 a10 a11 a12 a13 a14 a15 a16 a17 n) (nI (qv_bts K)) (nI best) (nI (qv_pc 10 best)) (nI s) (qv_oI (qv_allb (qv_sp K s) a)) y (nI a) c cd cc a1 a2 a3 a4 a5 a6 a7 a8 a9 a10 a11 a12 a13 a14 a15 a16 a17 := by
      intro y hy
      unfold wL_sets_44
      rw [e, qv_row K ha]
      refine ek_if (qv_b1 (by omega) (by omega)) (fun z => ek_if (qv_cov_tab _ l1 _ hs) (fun z2 => nm_r (nI_1 a) (hw (_, _) ⟨?_, hy⟩)) (fun z2 => nm_r (nI_1 a) (hw (_, _) ⟨?_, hy⟩))) (fun z => nm_r (nI_1 a) (hw (_, _) ⟨?_, hy⟩))
      · show qv_oI (qv_allb (qv_sp K s) a) = qv_oI (qv_allb (qv_sp K s) a && qv_sp K s a)
        have t : qv_sp K s a = true := by unfold qv_sp; rw [decide_eq_true z2, Bool.or_true]
        rw [t, Bool.and_true]
      · show (0 : Int32) = qv_oI (qv_allb (qv_sp K s) a && qv_sp K s a)
        have t : qv_sp K s a = false := by unfold qv_sp; rw [decide_eq_false z2, z]; rfl
        rw [t, Bool.and_false]
        rfl
      · show qv_oI (qv_allb (qv_sp K s) a) = qv_oI (qv_allb (qv_sp K s) a && qv_sp K s a)
        have t : qv_sp K s a = true := by
          unfold qv_sp
          rw [show s.testBit a = false by cases t : s.testBit a with
            | false => rfl
            | true => exact absurd t z]
          rfl
        rw [t, Bool.and_true]
    refine br_f (nI_ge (b := 5) ha (by decide)) ?_
    rw [e]
    refine ek_if (qv_b1 (by omega) (by omega)) (fun z => nm_r (nI_1 _) (key _ ?_)) (fun z => key _ ?_)
    · show nI (qv_sb s a + 1) = nI (qv_sb s a + (if s.testBit a then 1 else 0))
      rw [if_pos z]
    · show nI (qv_sb s a) = nI (qv_sb s a + (if s.testBit a then 1 else 0))
      rw [if_neg z]
      rfl
  · intro n t ⟨i1, i2⟩
    obtain ⟨t1, t2⟩ := t
    dsimp only at i1 i2 ⊢
    subst i1
    subst i2
    rw [qv_sb_tab s hs]
    unfold qv_sst at H
    refine br_t (nI_le (a := 5) (Nat.le_refl _) (by omega)) ?_
    cases t : qv_allb (qv_sp K s) 5 with
    | false =>
      have e : (if qv_pc 10 s < qv_pc 10 best then (if qv_allb (qv_sp K s) 5 = true then s else best) else best) = best := by
        rw [t]
        split <;> rfl
      rw [e] at H
      exact br_t rfl (br_t rfl (nm_r (nI_1 s) H))
    | true =>
      rw [t] at H
      refine br_f (by decide) (pk_le (qv_pc 10 best) (qv_pc 10 s) (fun z => br_f (by decide) (br_t (nI_le z (by omega)) (nm_r (nI_1 s) ?_))) (fun z => br_f (by decide) (br_f (nI_ge z (by omega)) (nm_r (nI_1 s) ?_))))
      · rw [if_neg (by omega)] at H; exact H
      · rw [if_pos z, if_pos rfl] at H; exact H
theorem qv_lsets {post : Int32 → St2 → Prop} {L : List Nat} (h : qv_ok L (c, cd, cc, a1, a2, a3, a4, a5, a6, a7, a8, a9, a10, a11, a12, a13, a14, a15, a16, a17)) (H : ∀ u, qv_ok L u → post 1 u) : wpL_sets post (c, cd, cc, a1, a2, a3, a4, a5, a6, a7, a8, a9, a10, a11, a12, a13, a14, a15, a16, a17) (nI (qv_bts (qv_cp L))) := by
  refine qv_up (σ := Int32 × Int32) (fun n z t => wL_sets_8 post (nI (qv_bts (qv_cp L))) c cd cc a1 a2 a3 a4 a5 a6 a7 a8 a9 a10 a11 a12 a13 a14 a15 a16 a17 n t.1 t.2 z) (fun s t => t.1 = nI (qv_it (fun j b => qv_sst (qv_cp L) (j + 1) b) (s - 1) 31) ∧ t.2 = nI (qv_pc 10 (qv_it (fun j b => qv_sst (qv_cp L) (j + 1) b) (s - 1) 31))) 1 32 (31, 5) (by omega) ⟨rfl, show (5 : Int32) = nI (qv_pc 10 31) by decide⟩ ?_ ?_
  · intro n s t hs1 hs ⟨i1, i2⟩ hw
    obtain ⟨t1, t2⟩ := t
    dsimp only at i1 i2 ⊢
    subst i1
    subst i2
    have hbest : qv_it (fun j b => qv_sst (qv_cp L) (j + 1) b) (s - 1) 31 < 32 := qv_it_inv _ (fun b => b < 32) _ _ (by omega) (fun j b hj hb => qv_sst_lt (by omega) hb)
    refine br_f (nI_ge (b := 32) hs (by decide)) (qv_sets24 hs hbest (hw (_, _) ?_))
    have e : qv_it (fun j b => qv_sst (qv_cp L) (j + 1) b) (s + 1 - 1) 31 = qv_sst (qv_cp L) s (qv_it (fun j b => qv_sst (qv_cp L) (j + 1) b) (s - 1) 31) := by
      rw [show s + 1 - 1 = (s - 1) + 1 by omega]
      show qv_sst (qv_cp L) (s - 1 + 1) _ = _
      rw [show s - 1 + 1 = s by omega]
    rw [e]
    exact ⟨rfl, rfl⟩
  · intro n t ⟨i1, i2⟩
    obtain ⟨t1, t2⟩ := t
    dsimp only at i1 i2 ⊢
    subst i1
    have hbest : qv_ssm (qv_cp L) < 32 := qv_it_inv _ (fun b => b < 32) _ _ (by omega) (fun j b hj hb => qv_sst_lt (by omega) hb)
    have e : qv_it (fun j b => qv_sst (qv_cp L) (j + 1) b) (32 - 1) 31 = qv_ssm (qv_cp L) := qv_sst_31 (qv_cp L) hbest
    rw [e]
    refine br_t (nI_le (a := 32) (Nat.le_refl _) (by omega)) ⟨6, ?_⟩
    have t := qv_sets134 h H 5 0 (by omega)
    rw [qv_opn_0] at t
    exact t
end
end
section
/-! the law's scores -/
def qv_glst (sc : Nat → Int32) (q : Nat) (t : Int32 × Int32) : Int32 × Int32 :=
  if sc q ≤ t.2 then (if sc q = t.2 then t.1 ||| ((1 : Int32) <<< (nI q &&& 31)) else t.1, t.2) else ((0 : Int32) ||| ((1 : Int32) <<< (nI q &&& 31)), sc q)
def qv_gl (sc : Nat → Int32) (q : Nat) : Int32 × Int32 := qv_it (qv_glst sc) q (0, -100)
theorem qv_gl_eq (sc : Nat → Int32) (h : ¬ sc 0 ≤ -100) (h2 : ¬ sc 0 ≤ -1000) : ∀ q, qv_gl sc (q + 1) = qv_it (qv_gst sc) (q + 1) (0, -1000) := by
  intro q
  induction q with
  | zero =>
    show qv_glst sc 0 (0, -100) = qv_gst sc 0 (0, -1000)
    unfold qv_glst qv_gst
    dsimp only
    have h3 : ¬ sc 0 < -1000 := fun z => h2 (Int32.le_of_lt z)
    rw [if_neg h, if_neg h3, if_neg h2]
  | succ q ih =>
    show qv_glst sc (q + 1) (qv_gl sc (q + 1)) = qv_gst sc (q + 1) (qv_it (qv_gst sc) (q + 1) (0, -1000))
    rw [ih]
    generalize qv_it (qv_gst sc) (q + 1) (0, -1000) = t
    unfold qv_glst qv_gst
    by_cases z : sc (q + 1) ≤ t.2
    · rw [if_pos z, if_pos z]
      by_cases z2 : sc (q + 1) = t.2
      · rw [if_pos z2, z2, if_neg Int32.lt_irrefl]
      · rw [if_neg z2, if_pos (Int32.lt_of_le_of_ne z z2)]
    · rw [if_neg z, if_neg z, if_neg (fun z2 => z (Int32.le_of_lt z2))]
theorem qv_gl5 (sc : Nat → Int32) (h : ¬ sc 0 ≤ -100) (h2 : ¬ sc 0 ≤ -1000) : (qv_gl sc 5).1 = qv_gs sc := by
  unfold qv_gs
  exact congrArg Prod.fst (qv_gl_eq sc h h2 4)
theorem qv_sum_add (f g : Nat → Nat) (n : Nat) : qv_sum (fun k => f k + g k) n = qv_sum f n + qv_sum g n := by
  induction n with
  | zero => rfl
  | succ n ih =>
    show qv_sum (fun k => f k + g k) n + (f n + g n) = qv_sum f n + f n + (qv_sum g n + g n)
    rw [ih]
    omega
theorem qv_31_tb : ∀ b, b < 5 → (31 : Nat).testBit b = true := by decide
theorem qv_pts_eq (K : (Nat → Bool) → Nat) (q : Nat) : qv_pts K 31 q = qv_sum (fun b => qv_C K q b) 5 := qv_sum_congr (fun b hb => by rw [qv_31_tb b hb]; rfl)
theorem qv_pts_app {L : List Nat} {o q : Nat} (ho : qv_vo o = true) (hq : q < 5) : qv_pts (qv_cp (L ++ [o])) 31 q = qv_pts (qv_cp L) 31 q + (4 - qv_pl o q) := by
  rw [qv_pts_eq, qv_pts_eq, ← qv_pts1 ho hq, ← qv_sum_add]
  refine qv_sum_congr (fun b _ => ?_)
  rw [qv_C_app]
  unfold qv_pf
  by_cases t : qv_pl o q < qv_pl o b
  · rw [if_pos t, if_pos (decide_eq_true t)]
  · rw [if_neg t, if_neg (fun z => t (of_decide_eq_true z))]
theorem qv_pts_nil (q : Nat) : qv_pts (qv_cp []) 31 q = 0 := by
  rw [qv_pts_eq]
  rfl
theorem qv_cp_app (L : List Nat) (o : Nat) (p : Nat → Bool) : qv_cp (L ++ [o]) p = qv_cp L p + (if p o then 1 else 0) := qv_cnt1 p L o
theorem qv_4sub : ∀ p, p < 5 → (4 : Int32) - nI p = nI (4 - p) := by decide +kernel
section
variable {c cd cc : Int32} {a1 a2 a3 a4 a5 a6 a7 a8 a9 a10 a11 a12 a13 a14 a15 a16 a17 : Nat → Int32}
variable {w u : Int32} {n : Nat}
theorem qv_ls_end {post : Int32 → St2 → Prop} {m q : Nat} {x10 x14 : Int32} {t2 t3 : Int32 × Int32} {sc2 sc3 : Nat → Int32} (e2 : sc2 q = x10) (e3 : sc3 q = x14)
    (H : wL_scores_17 post w u (nI n) m (qv_glst sc2 q t2).2 (qv_glst sc2 q t2).1 (qv_glst sc3 q t3).2 (qv_glst sc3 q t3).1 (nI (q + 1)) c cd cc a1 a2 a3 a4 a5 a6 a7 a8 a9 a10 a11 a12 a13 a14 a15 a16 a17) :
    (x10 ≤ t2.2 → wL_scores_262 post (wL_scores_17 post w u (nI n) m) w u (nI n) t2.2 t2.1 t3.2 t3.1 (nI q) x10 x14 c cd cc a1 a2 a3 a4 a5 a6 a7 a8 a9 a10 a11 a12 a13 a14 a15 a16 a17) ∧ (¬ x10 ≤ t2.2 → wL_scores_262 post (wL_scores_17 post w u (nI n) m) w u (nI n) t2.2 0 t3.2 t3.1 (nI q) x10 x14 c cd cc a1 a2 a3 a4 a5 a6 a7 a8 a9 a10 a11 a12 a13 a14 a15 a16 a17) := by
  subst e2
  subst e3
  have K3 : ∀ y5 y6, wL_scores_17 post w u (nI n) m y5 y6 (qv_glst sc3 q t3).2 (qv_glst sc3 q t3).1 (nI (q + 1)) c cd cc a1 a2 a3 a4 a5 a6 a7 a8 a9 a10 a11 a12 a13 a14 a15 a16 a17 → wL_scores_289 post (wL_scores_17 post w u (nI n) m) w u (nI n) y5 y6 t3.2 t3.1 (nI q) (sc3 q) c cd cc a1 a2 a3 a4 a5 a6 a7 a8 a9 a10 a11 a12 a13 a14 a15 a16 a17 := by
    intro y5 y6 h
    unfold qv_glst at h
    refine br_c (fun z => br_t z ?_) (fun z => br_f z ?_)
    · rw [if_pos z] at h
      refine br_c (fun z2 => nm_e (nm_r (nI_1 q) ?_)) (fun z2 => nm_r (nI_1 q) ?_)
      · rw [if_pos z2] at h; exact h
      · rw [if_neg z2] at h; exact h
    · rw [if_neg z] at h
      exact br_t rfl (nm_e (nm_r (nI_1 q) h))
  have H' := K3 _ _ H
  unfold qv_glst at H'
  refine br_c (fun z => br_t z ?_) (fun z => br_f z ?_)
  · rw [if_pos z] at H'
    refine br_c (fun z2 => nm_e ?_) (fun z2 => ?_)
    · rw [if_pos z2] at H'; exact H'
    · rw [if_neg z2] at H'; exact H'
  · rw [if_neg z] at H'
    exact br_t rfl (nm_e H')
theorem qv_ls101 {post : Int32 → St2 → Prop} {m q : Nat} {x10 x11 x12 : Int32} {t2 t3 : Int32 × Int32} (hn : n ≤ 9) (hq : q < 5)
    (e10 : x10 = qv_sc (qv_cp (qv_LL w u n)) (qv_LL w u n).length 2 q) (e11 : x11 = qv_sc (qv_cp (qv_LL w u n)) (qv_LL w u n).length 0 q) (e12 : -x12 = qv_sc (qv_cp (qv_LL w u n)) (qv_LL w u n).length 1 q)
    (H : ∀ (c cd cc : Int32) (a1 a2 a3 a4 a5 a6 a7 a8 a9 a10 a11 a12 a13 a14 a15 a16 a17 : Nat → Int32), qv_ok (qv_LL w u n) (c, cd, cc, a1, a2, a3, a4, a5, a6, a7, a8, a9, a10, a11, a12, a13, a14, a15, a16, a17) → wL_scores_17 post w u (nI n) m (qv_glst (qv_sc (qv_cp (qv_LL w u n)) (qv_LL w u n).length 2) q t2).2 (qv_glst (qv_sc (qv_cp (qv_LL w u n)) (qv_LL w u n).length 2) q t2).1 (qv_glst (qv_sc (qv_cp (qv_LL w u n)) (qv_LL w u n).length 3) q t3).2 (qv_glst (qv_sc (qv_cp (qv_LL w u n)) (qv_LL w u n).length 3) q t3).1 (nI (q + 1)) c cd cc a1 a2 a3 a4 a5 a6 a7 a8 a9 a10 a11 a12 a13 a14 a15 a16 a17) :
    ∀ (d b : Nat) (c cd cc : Int32) (a1 a2 a3 a4 a5 a6 a7 a8 a9 a10 a11 a12 a13 a14 a15 a16 a17 : Nat → Int32), b + d = 5 → qv_ok (qv_LL w u n) (c, cd, cc, a1, a2, a3, a4, a5, a6, a7, a8, a9, a10, a11, a12, a13, a14, a15, a16, a17) →
      wL_scores_101 post (wL_scores_17 post w u (nI n) m) w u (nI n) t2.2 t2.1 t3.2 t3.1 (nI q) x10 x11 x12 (d + 1) (qv_it (qv_smls (qv_M (qv_cp (qv_LL w u n))) q) b 100) (qv_it (qv_cops (qv_M (qv_cp (qv_LL w u n))) q) b 0) (nI b) c cd cc a1 a2 a3 a4 a5 a6 a7 a8 a9 a10 a11 a12 a13 a14 a15 a16 a17 := by
  intro d
  induction d with
  | zero =>
    intro b c cd cc a1 a2 a3 a4 a5 a6 a7 a8 a9 a10 a11 a12 a13 a14 a15 a16 a17 hb h
    have e : b = 5 := by omega
    subst e
    have e13 : qv_it (qv_smls (qv_M (qv_cp (qv_LL w u n))) q) 5 100 = qv_sc (qv_cp (qv_LL w u n)) (qv_LL w u n).length 4 q := by unfold qv_sc qv_sml; rfl
    have e14 : qv_it (qv_cops (qv_M (qv_cp (qv_LL w u n))) q) 5 0 = qv_sc (qv_cp (qv_LL w u n)) (qv_LL w u n).length 3 q := by unfold qv_sc qv_cop; rfl
    rw [e13, e14]
    clear e13 e14
    generalize hL : qv_LL w u n = L at *
    refine br_t (nI_le (a := 5) (Nat.le_refl _) (by omega)) ?_
    refine qv_score (r := 0) (by omega) hq h (fun v h1 => ?_)
    obtain ⟨cx, cdx, ccx, a1x, a2x, a3x, a4x, a5x, a6x, a7x, a8x, a9x, a10x, a11x, a12x, a13x, a14x, a15x, a16x, a17x⟩ := v
    refine br_t e11.symm ?_
    refine qv_score (r := 1) (by omega) hq (qv_okc_ok h1) (fun v h2 => ?_)
    obtain ⟨cy, cdy, ccy, a1y, a2y, a3y, a4y, a5y, a6y, a7y, a8y, a9y, a10y, a11y, a12y, a13y, a14y, a15y, a16y, a17y⟩ := v
    refine br_t e12.symm ?_
    refine qv_score (r := 2) (by omega) hq (qv_okc_ok h2) (fun v h3 => ?_)
    obtain ⟨cz, cdz, ccz, a1z, a2z, a3z, a4z, a5z, a6z, a7z, a8z, a9z, a10z, a11z, a12z, a13z, a14z, a15z, a16z, a17z⟩ := v
    refine br_t e10.symm ?_
    refine qv_score (r := 3) (by omega) hq (qv_okc_ok h3) (fun v h4 => ?_)
    obtain ⟨cp, cdp, ccp, a1p, a2p, a3p, a4p, a5p, a6p, a7p, a8p, a9p, a10p, a11p, a12p, a13p, a14p, a15p, a16p, a17p⟩ := v
    refine br_t rfl ?_
    refine qv_score (r := 4) (by omega) hq (qv_okc_ok h4) (fun v h5 => ?_)
    obtain ⟨cq, cdq, ccq, a1q, a2q, a3q, a4q, a5q, a6q, a7q, a8q, a9q, a10q, a11q, a12q, a13q, a14q, a15q, a16q, a17q⟩ := v
    refine br_t rfl ?_
    exact qv_ls_end e10.symm rfl (H cq cdq ccq a1q a2q a3q a4q a5q a6q a7q a8q a9q a10q a11q a12q a13q a14q a15q a16q a17q (qv_okc_ok h5))
  | succ d ih =>
    intro b c cd cc a1 a2 a3 a4 a5 a6 a7 a8 a9 a10 a11 a12 a13 a14 a15 a16 a17 hb h
    have hb5 : b < 5 := by omega
    refine br_f (nI_ge (b := 5) hb5 (by decide)) (qv_lmargin hn hq hb5 (qv_margin h hq hb5 (fun v h1 => ?_)))
    obtain ⟨cx, cdx, ccx, a1x, a2x, a3x, a4x, a5x, a6x, a7x, a8x, a9x, a10x, a11x, a12x, a13x, a14x, a15x, a16x, a17x⟩ := v
    refine br_t rfl ?_
    rw [← qv_M_at _ hq hb5]
    have IH := ih (b + 1) cx cdx ccx a1x a2x a3x a4x a5x a6x a7x a8x a9x a10x a11x a12x a13x a14x a15x a16x a17x (by omega) (qv_okc_ok h1)
    have E1 : qv_it (qv_smls (qv_M (qv_cp (qv_LL w u n))) q) (b + 1) 100 = qv_smls (qv_M (qv_cp (qv_LL w u n))) q b (qv_it (qv_smls (qv_M (qv_cp (qv_LL w u n))) q) b 100) := rfl
    have E2 : qv_it (qv_cops (qv_M (qv_cp (qv_LL w u n))) q) (b + 1) 0 = qv_cops (qv_M (qv_cp (qv_LL w u n))) q b (qv_it (qv_cops (qv_M (qv_cp (qv_LL w u n))) q) b 0) := rfl
    rw [E1, E2] at IH
    generalize qv_it (qv_smls (qv_M (qv_cp (qv_LL w u n))) q) b 100 = x13 at IH ⊢
    generalize qv_it (qv_cops (qv_M (qv_cp (qv_LL w u n))) q) b 0 = x14 at IH ⊢
    unfold qv_smls qv_cops at IH
    generalize qv_M (qv_cp (qv_LL w u n)) (5 * q + b) = mg at IH ⊢
    refine pk_eq b q (fun e => ?_) (fun e => ?_)
    · rw [if_pos e, if_pos e] at IH
      exact pk_eq b q (fun _ => nm_r (nI_1 b) IH) (fun z => absurd e z)
    · rw [if_neg e, if_neg e] at IH
      have key : ∀ y, y = (if x13 ≤ mg then x13 else mg) → wL_scores_152 post (wL_scores_17 post w u (nI n) m) (wL_scores_101 post (wL_scores_17 post w u (nI n) m) w u (nI n) t2.2 t2.1 t3.2 t3.1 (nI q) x10 x11 x12 (d + 1)) w u (nI n) t2.2 t2.1 t3.2 t3.1 (nI q) x10 x11 x12 y x14 (nI b) mg cx cdx ccx a1x a2x a3x a4x a5x a6x a7x a8x a9x a10x a11x a12x a13x a14x a15x a16x a17x := by
        intro y hy
        rw [← hy] at IH
        refine pk_eq b q (fun z => absurd z e) (fun _ => br_c (fun z => br_c (fun z2 => nm_e (nm_r (nI_1 b) ?_)) (fun z2 => nm_e (nm_r (nI_1 b) ?_))) (fun z => nm_e (nm_r (nI_1 b) ?_)))
        · rw [if_pos z, if_pos z2] at IH; exact IH
        · rw [if_pos z, if_neg z2] at IH; exact IH
        · rw [if_neg z] at IH; exact IH
      exact br_c (fun z => key _ (by rw [if_pos z])) (fun z => key _ (by rw [if_neg z]))
theorem qv_ls42 {post : Int32 → St2 → Prop} {m q : Nat} {t2 t3 : Int32 × Int32} (hn : n ≤ 9) (hq : q < 5) (h : qv_ok (qv_LL w u n) (c, cd, cc, a1, a2, a3, a4, a5, a6, a7, a8, a9, a10, a11, a12, a13, a14, a15, a16, a17))
    (H : ∀ (c cd cc : Int32) (a1 a2 a3 a4 a5 a6 a7 a8 a9 a10 a11 a12 a13 a14 a15 a16 a17 : Nat → Int32), qv_ok (qv_LL w u n) (c, cd, cc, a1, a2, a3, a4, a5, a6, a7, a8, a9, a10, a11, a12, a13, a14, a15, a16, a17) → wL_scores_17 post w u (nI n) m (qv_glst (qv_sc (qv_cp (qv_LL w u n)) (qv_LL w u n).length 2) q t2).2 (qv_glst (qv_sc (qv_cp (qv_LL w u n)) (qv_LL w u n).length 2) q t2).1 (qv_glst (qv_sc (qv_cp (qv_LL w u n)) (qv_LL w u n).length 3) q t3).2 (qv_glst (qv_sc (qv_cp (qv_LL w u n)) (qv_LL w u n).length 3) q t3).1 (nI (q + 1)) c cd cc a1 a2 a3 a4 a5 a6 a7 a8 a9 a10 a11 a12 a13 a14 a15 a16 a17) :
    ∃ f, wL_scores_42 post (wL_scores_17 post w u (nI n) m) w u (nI n) t2.2 t2.1 t3.2 t3.1 (nI q) 100 0 c cd cc a1 a2 a3 a4 a5 a6 a7 a8 a9 a10 a11 a12 a13 a14 a15 a16 a17 f 0 0 0 0 := by
  refine qv_up (σ := Int32 × Int32 × Int32) (fun f z s => wL_scores_42 post (wL_scores_17 post w u (nI n) m) w u (nI n) t2.2 t2.1 t3.2 t3.1 (nI q) 100 0 c cd cc a1 a2 a3 a4 a5 a6 a7 a8 a9 a10 a11 a12 a13 a14 a15 a16 a17 f s.1 s.2.1 s.2.2 z) (fun k s => s.1 = nI (qv_pts (qv_cp (qv_LL w u k)) 31 q) ∧ s.2.1 = nI (qv_cp (qv_LL w u k) (fun o => decide (qv_pl o q = 0))) ∧ s.2.2 = nI (qv_cp (qv_LL w u k) (fun o => decide (qv_pl o q = 4)))) 0 n (0, 0, 0) (Nat.zero_le _) ⟨show (0 : Int32) = nI (qv_pts (qv_cp []) 31 q) by rw [qv_pts_nil]; rfl, rfl, rfl⟩ ?_ ?_
  · intro f k s _ hk ⟨i1, i2, i3⟩ hw
    obtain ⟨s1, s2, s3⟩ := s
    dsimp only at i1 i2 i3 ⊢
    subst i1
    subst i2
    subst i3
    have hv := qv_bl_vo w u k
    have lq := qv_pl_lt hv hq
    rw [qv_LL_s, qv_pts_app hv hq, qv_cp_app, qv_cp_app] at hw
    have e1 : nI (qv_pts (qv_cp (qv_LL w u k)) 31 q) + (4 - nI (qv_pl (qv_bl w u k) q)) = nI (qv_pts (qv_cp (qv_LL w u k)) 31 q + (4 - qv_pl (qv_bl w u k) q)) := by rw [qv_4sub _ lq, nI_add]
    have key : ∀ y, y = nI (qv_cp (qv_LL w u k) (fun o => decide (qv_pl o q = 0)) + if decide (qv_pl (qv_bl w u k) q = 0) = true then 1 else 0) → wL_scores_83 post (wL_scores_17 post w u (nI n) m) (wL_scores_42 post (wL_scores_17 post w u (nI n) m) w u (nI n) t2.2 t2.1 t3.2 t3.1 (nI q) 100 0 c cd cc a1 a2 a3 a4 a5 a6 a7 a8 a9 a10 a11 a12 a13 a14 a15 a16 a17 f) w u (nI n) t2.2 t2.1 t3.2 t3.1 (nI q) (nI (qv_pts (qv_cp (qv_LL w u k)) 31 q + (4 - qv_pl (qv_bl w u k) q))) y (nI (qv_cp (qv_LL w u k) (fun o => decide (qv_pl o q = 4)))) 100 0 (nI k) (nI (qv_pl (qv_bl w u k) q)) c cd cc a1 a2 a3 a4 a5 a6 a7 a8 a9 a10 a11 a12 a13 a14 a15 a16 a17 := by
      intro y hy
      refine pk_eq (qv_pl (qv_bl w u k) q) 4 (fun z => nm_r (nI_1 _) (nm_r (nI_1 k) (hw (nI (qv_pts (qv_cp (qv_LL w u k)) 31 q + (4 - qv_pl (qv_bl w u k) q)), y, nI (qv_cp (qv_LL w u k) (fun o => decide (qv_pl o q = 4)) + 1)) ⟨rfl, hy, ?_⟩))) (fun z => nm_r (nI_1 k) (hw (nI (qv_pts (qv_cp (qv_LL w u k)) 31 q + (4 - qv_pl (qv_bl w u k) q)), y, nI (qv_cp (qv_LL w u k) (fun o => decide (qv_pl o q = 4)))) ⟨rfl, hy, ?_⟩))
      · rw [if_pos (decide_eq_true z)]
      · rw [if_neg (fun t => z (of_decide_eq_true t))]
        rfl
    refine br_f (nI_ge hk (by omega)) (qv_lballot (by omega) (qv_lplace (qv_vo_lt hv) hq (nm_r e1 (pk_eq (qv_pl (qv_bl w u k) q) 0 (fun z => nm_r (nI_1 _) (key _ ?_)) (fun z => key _ ?_)))))
    · rw [if_pos (decide_eq_true z)]
    · rw [if_neg (fun t => z (of_decide_eq_true t))]
      rfl
  · intro f s ⟨i1, i2, i3⟩
    obtain ⟨s1, s2, s3⟩ := s
    dsimp only at i1 i2 i3 ⊢
    refine br_t (nI_le (Nat.le_refl _) (by omega)) ⟨6, ?_⟩
    exact qv_ls101 (m := m) hn hq i1 i2 (by rw [i3]; rfl) H 5 0 c cd cc a1 a2 a3 a4 a5 a6 a7 a8 a9 a10 a11 a12 a13 a14 a15 a16 a17 (by omega) h
theorem qv_WR2 (K : (Nat → Bool) → Nat) (n r : Nat) (hr : r ≤ 5) : qv_WR K n r = qv_gs (qv_sc K n r) := by
  unfold qv_WR
  rw [if_pos hr]
theorem qv_cops_nn (M : Nat → Int32) (q : Nat) : ∀ b, b ≤ 5 → ∃ k, k ≤ 2 * b ∧ qv_it (qv_cops M q) b 0 = nI k := by
  intro b
  induction b with
  | zero => intro _; exact ⟨0, Nat.le_refl _, rfl⟩
  | succ b ih =>
    intro hb
    obtain ⟨k, hk, e⟩ := ih (by omega)
    show ∃ k, k ≤ 2 * (b + 1) ∧ qv_cops M q b (qv_it (qv_cops M q) b 0) = nI k
    rw [e]
    unfold qv_cops
    split
    · exact ⟨k, by omega, rfl⟩
    · split
      · split
        · exact ⟨k + 1, by omega, nI_1 k⟩
        · exact ⟨k, by omega, Int32.add_zero _⟩
      · exact ⟨k + 2, by omega, nI_add k 2⟩
theorem qv_nn {k : Nat} (hk : k < 2 ^ 31) : ¬ nI k ≤ -100 ∧ ¬ nI k ≤ -1000 := by
  have h := nI_toInt hk
  constructor
  · intro z
    have z' := Int32.le_iff_toInt_le.mp z
    rw [h, show (-100 : Int32).toInt = -100 by decide] at z'
    omega
  · intro z
    have z' := Int32.le_iff_toInt_le.mp z
    rw [h, show (-1000 : Int32).toInt = -1000 by decide] at z'
    omega
theorem qv_pts_le {K : (Nat → Bool) → Nat} (hK : ∀ p, K p ≤ 9) (q : Nat) : qv_pts K 31 q ≤ 45 := by
  rw [qv_pts_eq]
  refine Nat.le_trans (qv_sum_le (g := fun _ => 9) (fun b _ => hK _)) ?_
  decide
theorem qv_lscores {post : Int32 → St2 → Prop} {beats : Int32} (hn : n ≤ 9) (h : qv_ok (qv_LL w u n) (c, cd, cc, a1, a2, a3, a4, a5, a6, a7, a8, a9, a10, a11, a12, a13, a14, a15, a16, a17)) (H : ∀ v, qv_ok (qv_LL w u n) v → post 1 v) : wpL_scores post (c, cd, cc, a1, a2, a3, a4, a5, a6, a7, a8, a9, a10, a11, a12, a13, a14, a15, a16, a17) w u (nI n) beats := by
  have hK : ∀ p, qv_cp (qv_LL w u n) p ≤ 9 := fun p => Nat.le_trans (qv_cp_le _ p) (by rw [qv_LL_len]; exact hn)
  have main : ∀ (d q : Nat) (c cd cc : Int32) (a1 a2 a3 a4 a5 a6 a7 a8 a9 a10 a11 a12 a13 a14 a15 a16 a17 : Nat → Int32), q + d = 5 → qv_ok (qv_LL w u n) (c, cd, cc, a1, a2, a3, a4, a5, a6, a7, a8, a9, a10, a11, a12, a13, a14, a15, a16, a17) → wL_scores_17 post w u (nI n) (d + 1) (qv_gl (qv_sc (qv_cp (qv_LL w u n)) (qv_LL w u n).length 2) q).2 (qv_gl (qv_sc (qv_cp (qv_LL w u n)) (qv_LL w u n).length 2) q).1 (qv_gl (qv_sc (qv_cp (qv_LL w u n)) (qv_LL w u n).length 3) q).2 (qv_gl (qv_sc (qv_cp (qv_LL w u n)) (qv_LL w u n).length 3) q).1 (nI q) c cd cc a1 a2 a3 a4 a5 a6 a7 a8 a9 a10 a11 a12 a13 a14 a15 a16 a17 := by
    intro d
    induction d with
    | zero =>
      intro q c cd cc a1 a2 a3 a4 a5 a6 a7 a8 a9 a10 a11 a12 a13 a14 a15 a16 a17 hq h
      have e : q = 5 := by omega
      subst e
      have G2 : (qv_gl (qv_sc (qv_cp (qv_LL w u n)) (qv_LL w u n).length 2) 5).1 = qv_WR (qv_cp (qv_LL w u n)) (qv_LL w u n).length 2 := by
        rw [qv_WR2 _ _ _ (by omega)]
        have t := qv_nn (k := qv_pts (qv_cp (qv_LL w u n)) 31 0) (Nat.lt_of_le_of_lt (qv_pts_le hK 0) (by omega))
        have e' : qv_sc (qv_cp (qv_LL w u n)) (qv_LL w u n).length 2 0 = nI (qv_pts (qv_cp (qv_LL w u n)) 31 0) := by unfold qv_sc; rfl
        exact qv_gl5 _ (by rw [e']; exact t.1) (by rw [e']; exact t.2)
      have G3 : (qv_gl (qv_sc (qv_cp (qv_LL w u n)) (qv_LL w u n).length 3) 5).1 = qv_WR (qv_cp (qv_LL w u n)) (qv_LL w u n).length 3 := by
        rw [qv_WR2 _ _ _ (by omega)]
        obtain ⟨k, hk, e⟩ := qv_cops_nn (qv_M (qv_cp (qv_LL w u n))) 0 5 (by omega)
        have e' : qv_sc (qv_cp (qv_LL w u n)) (qv_LL w u n).length 3 0 = nI k := by
          unfold qv_sc qv_cop
          exact e
        have t := qv_nn (k := k) (by omega)
        exact qv_gl5 _ (by rw [e']; exact t.1) (by rw [e']; exact t.2)
      rw [G2, G3]
      generalize (qv_gl (qv_sc (qv_cp (qv_LL w u n)) (qv_LL w u n).length 2) 5).2 = y2
      generalize (qv_gl (qv_sc (qv_cp (qv_LL w u n)) (qv_LL w u n).length 3) 5).2 = y3
      refine br_t (nI_le (a := 5) (Nat.le_refl _) (by omega)) ?_
      refine qv_winners (r := 2) h (by omega) (fun v h1 => ?_)
      obtain ⟨cx, cdx, ccx, a1x, a2x, a3x, a4x, a5x, a6x, a7x, a8x, a9x, a10x, a11x, a12x, a13x, a14x, a15x, a16x, a17x⟩ := v
      refine br_t rfl ?_
      refine qv_winners (r := 3) (qv_okc_ok h1) (by omega) (fun v h2 => ?_)
      obtain ⟨cy, cdy, ccy, a1y, a2y, a3y, a4y, a5y, a6y, a7y, a8y, a9y, a10y, a11y, a12y, a13y, a14y, a15y, a16y, a17y⟩ := v
      refine br_t rfl ?_
      refine qv_agree (r := 2) (s := 3) (qv_okc_ok h2) (by omega) (by omega) (fun v h3 => ?_)
      obtain ⟨cz, cdz, ccz, a1z, a2z, a3z, a4z, a5z, a6z, a7z, a8z, a9z, a10z, a11z, a12z, a13z, a14z, a15z, a16z, a17z⟩ := v
      refine br_c (fun z => ?_) (fun z => ?_)
      · rw [decide_eq_true z]
        exact br_t rfl (H _ (qv_okc_ok h3))
      · rw [decide_eq_false z]
        exact br_t rfl (H _ (qv_okc_ok h3))
    | succ d ih =>
      intro q c cd cc a1 a2 a3 a4 a5 a6 a7 a8 a9 a10 a11 a12 a13 a14 a15 a16 a17 hq h
      refine br_f (nI_ge (b := 5) (by omega) (by decide)) (qv_ls42 hn (by omega) h (fun cx cdx ccx a1x a2x a3x a4x a5x a6x a7x a8x a9x a10x a11x a12x a13x a14x a15x a16x a17x hx => ?_))
      exact ih (q + 1) cx cdx ccx a1x a2x a3x a4x a5x a6x a7x a8x a9x a10x a11x a12x a13x a14x a15x a16x a17x (by omega) hx
  exact ⟨6, main 5 0 c cd cc a1 a2 a3 a4 a5 a6 a7 a8 a9 a10 a11 a12 a13 a14 a15 a16 a17 (by omega) h⟩
end
end
section
/-! the law -/
theorem qv_nnone {g : Nat} (hg : g < 3125) : ¬ nI g = -1002 := fun z => nI_pos (show g < 2 ^ 31 by omega) (by rw [z]; decide)
theorem qv_erase_last (A : List Nat) (g : Nat) : (A ++ [g]).eraseIdx A.length = A := by
  induction A with
  | nil => rfl
  | cons a A ih =>
    show a :: ((A ++ [g]).eraseIdx A.length) = a :: A
    rw [ih]
theorem qv_WR_perm {L : List Nat} {i o r : Nat} (hi : i < L.length) : qv_WR (qv_cp (L.eraseIdx i ++ [o])) (L.eraseIdx i ++ [o]).length r = qv_WR (qv_cp (L.set i o)) L.length r := by
  have e1 : (L.eraseIdx i ++ [o]).length = L.length := by
    rw [List.length_append, List.length_eraseIdx_of_lt hi, List.length_singleton]
    omega
  rw [e1, qv_cp_perm (qv_perm hi)]
theorem qv_min (W : Nat → Int32 → Int32 → Prop) {o m : Nat} (ho : qv_vo o = true) (hm : m < 32)
    (hs : ∀ n c x, c < 5 → x ≤ 5 → W n (nI (if m.testBit c = true ∧ qv_pl o c < x then qv_pl o c else x)) (nI (c + 1)) → W (n + 1) (nI x) (nI c))
    (hx : ∀ n, W (n + 1) (nI (qv_bp o m)) (nI 5)) : ∃ n, W n 5 0 := by
  refine qv_for (fun n z x => W n (nI x) z) (fun c now => if m.testBit c = true ∧ qv_pl o c < now then qv_pl o c else now) (fun _ x => x ≤ 5) 5 5 (Nat.le_refl _) ?_ ?_ ?_
  · intro c x hc hx'
    split
    · exact Nat.le_of_lt (qv_pl_lt ho hc)
    · exact hx'
  · intro n c x hc hx' h
    exact hs n c x hc hx' h
  · intro n _
    have t := hx n
    rw [qv_bp_lm ho hm] at t
    unfold qv_lm at t
    exact t
section
variable {c cd cc : Int32} {a1 a2 a3 a4 a5 a6 a7 a8 a9 a10 a11 a12 a13 a14 a15 a16 a17 : Nat → Int32}
variable {post : Int32 → St0 → Prop} {mc ms kc ks : Nat} {x3 : Int32}
theorem qv_520 (H : post 1 ()) : ∀ (d : Nat) (L : List Nat) (c cd cc : Int32) (a1 a2 a3 a4 a5 a6 a7 a8 a9 a10 a11 a12 a13 a14 a15 a16 a17 : Nat → Int32), L.length + d = 9 → qv_ok L (c, cd, cc, a1, a2, a3, a4, a5, a6, a7, a8, a9, a10, a11, a12, a13, a14, a15, a16, a17) → wL_lawOf_520 post mc ms kc ks (d + 1) (nI (L.length + 1)) c cd cc a1 a2 a3 a4 a5 a6 a7 a8 a9 a10 a11 a12 a13 a14 a15 a16 a17 := by
  intro d
  induction d with
  | zero =>
    intro L c cd cc a1 a2 a3 a4 a5 a6 a7 a8 a9 a10 a11 a12 a13 a14 a15 a16 a17 hl h
    have e : L.length = 9 := by omega
    rw [e]
    refine br_t (by decide) ?_
    refine qv_ballot_full h e ?_
    refine br_t rfl ?_
    refine qv_ballot_full h e ?_
    refine br_t rfl ?_
    refine br_f (by decide) (br_t (by decide) ?_)
    refine br_t rfl ?_
    have ec := h.1.2.2.1
    rw [e] at ec
    subst ec
    refine br_f (by decide) (br_f (by decide) (br_f (by decide) (br_f (by decide) ?_)))
    refine br_t rfl ?_
    refine br_f (by decide) (br_f (by decide) ?_)
    refine br_t rfl ?_
    refine br_f (by decide) (br_t (by decide) ?_)
    refine br_t rfl ?_
    unfold wpX_swaps
    dsimp only
    refine br_f (by decide) (br_t (by decide) ?_)
    refine br_t rfl ?_
    refine br_t rfl ?_
    unfold wpX_strength
    dsimp only
    refine br_f (by decide) (br_f (by decide) ?_)
    refine br_f (by decide) ?_
    refine br_f (by decide) (br_f (by decide) ?_)
    refine br_f (by decide) ?_
    refine br_t rfl ?_
    refine br_t rfl ?_
    refine br_f (by decide) (br_f (by decide) (br_f (by decide) (br_f (by decide) ?_)))
    exact br_t rfl H
  | succ d ih =>
    intro L c cd cc a1 a2 a3 a4 a5 a6 a7 a8 a9 a10 a11 a12 a13 a14 a15 a16 a17 hl h
    refine br_f (nI_nlt (a := 9) (by omega) (by omega)) ?_
    refine qv_ballot (o := 194) h (by omega) (by decide) (fun v h' => ?_)
    obtain ⟨cx, cdx, ccx, a1x, a2x, a3x, a4x, a5x, a6x, a7x, a8x, a9x, a10x, a11x, a12x, a13x, a14x, a15x, a16x, a17x⟩ := v
    have e : (L ++ [194]).length = L.length + 1 := by simp
    have IH := ih (L ++ [194]) cx cdx ccx a1x a2x a3x a4x a5x a6x a7x a8x a9x a10x a11x a12x a13x a14x a15x a16x a17x (by omega) h'
    rw [e] at IH
    exact br_t rfl (nm_r (nI_1 _) IH)
theorem qv_520' (H : post 1 ()) {L : List Nat} {n : Nat} (hl : L.length = n) (h : qv_ok L (c, cd, cc, a1, a2, a3, a4, a5, a6, a7, a8, a9, a10, a11, a12, a13, a14, a15, a16, a17)) : ∀ x, x = nI n + 1 → ∃ f, wL_lawOf_520 post mc ms kc ks f x c cd cc a1 a2 a3 a4 a5 a6 a7 a8 a9 a10 a11 a12 a13 a14 a15 a16 a17 := by
  have h9 := h.1.1
  refine nm_r (nI_1 n) ⟨9 - n + 1, ?_⟩
  rw [← hl]
  exact qv_520 H (9 - L.length) L c cd cc a1 a2 a3 a4 a5 a6 a7 a8 a9 a10 a11 a12 a13 a14 a15 a16 a17 (by omega) h
theorem qv_477 (H : post 1 ()) {L : List Nat} {n o now : Nat} {x : Int32} (hl : L.length = n) (h : qv_ok L (c, cd, cc, a1, a2, a3, a4, a5, a6, a7, a8, a9, a10, a11, a12, a13, a14, a15, a16, a17)) (ho : qv_vo o = true) (hnow : now ≤ qv_bp o (qv_ms x)) :
    ∃ f, wL_lawOf_477 post mc ms (nI n) (nI o) (nI now) x kc ks c cd cc a1 a2 a3 a4 a5 a6 a7 a8 a9 a10 a11 a12 a13 a14 a15 a16 a17 f 0 := by
  have hb := qv_bp_lt o (qv_ms x)
  refine qv_up (σ := Unit) (fun f z _ => wL_lawOf_477 post mc ms (nI n) (nI o) (nI now) x kc ks c cd cc a1 a2 a3 a4 a5 a6 a7 a8 a9 a10 a11 a12 a13 a14 a15 a16 a17 f z) (fun _ _ => True) 0 5 () (by omega) trivial ?_ ?_
  · intro f q _ _ hq _ hw
    refine br_f (nI_ge (b := 5) hq (by decide)) (br_c (fun z => ?_) (fun z => nm_r (nI_1 q) (hw () trivial)))
    have z' : (qv_ms x).testBit q = true := by rw [qv_ms_tb x hq]; exact decide_eq_true z
    have t := qv_bp_le ho (qv_ms_lt x) hq z'
    have t2 := qv_pl_lt ho hq
    exact qv_lplace (qv_vo_lt ho) hq (br_t (nI_le (by omega) (by omega)) (nm_r (nI_1 q) (hw () trivial)))
  · intro f _ _
    exact br_t (nI_le (a := 5) (Nat.le_refl _) (by omega)) (qv_520' H hl h)
def qv_p16 (x3 : Int32) : Nat := ((x3 >>> ((16 : Int32) &&& 31)) &&& 255).toNatClampNeg % 120
theorem qv_lorder16 {P : Int32 → Prop} (H : P (nI (qv_od (qv_p16 x3)))) : wpL_order P () (((x3 >>> ((16 : Int32) &&& 31)) &&& 255) - ((x3 >>> ((16 : Int32) &&& 31)) &&& 255) / 120 * 120) := by
  obtain ⟨j, hj, e⟩ := pk_andE (x3 >>> ((16 : Int32) &&& 31)) (m := 255) 8 (by decide)
  unfold qv_p16 at H
  rw [e, nI_clamp (by omega)] at H
  rw [e, show nI j - nI j / 120 * 120 = nI (j % 120) from pk_rem (d := 120) (by omega) (by omega) (by omega)]
  exact qv_lorder (Nat.mod_lt _ (by omega)) H
theorem qv_p16_vo (x3 : Int32) : qv_vo (qv_od (qv_p16 x3)) = true := (qv_od_tab _ (Nat.mod_lt _ (by omega))).2
theorem qv_404 (H : post 1 ()) {L : List Nat} {n i r o now : Nat} {x11 : Int32} (hnow : now = qv_bp (L.getD i 0) (qv_ms (qv_WR (qv_cp L) L.length r))) (hl : L.length = n) (hn : 1 ≤ n) (hi : i < n) (hr : r ≤ 14) (ho : qv_vo (L.getD i 0) = true)
    (hx : x11 = -1002 ∨ ∃ g, qv_vo g = true ∧ x11 = nI g ∧ ∀ p, p < g → qv_vo p = true → ¬ qv_bt L i r p) (h : qv_ok (L.eraseIdx i ++ [o]) (c, cd, cc, a1, a2, a3, a4, a5, a6, a7, a8, a9, a10, a11, a12, a13, a14, a15, a16, a17)) :
    wL_lawOf_404 post mc ms x3 (nI n) (nI r) (nI (L.getD i 0)) x11 (nI now) kc ks c cd cc a1 a2 a3 a4 a5 a6 a7 a8 a9 a10 a11 a12 a13 a14 a15 a16 a17 := by
  have hel : (L.eraseIdx i).length = n - 1 := by rw [List.length_eraseIdx_of_lt (by omega), hl]
  have hlen : ∀ p, (L.eraseIdx i ++ [p]).length = n := by
    intro p
    rw [List.length_append, hel, List.length_singleton]
    omega
  have hn9 : n ≤ 9 := by
    have t := h.1.1
    rwa [hlen] at t
  refine ⟨by decide, qv_lorder16 ?_⟩
  rcases hx with hx | ⟨g, hg, hx, hmin⟩
  · exact br_t hx (qv_520' H (hlen o) h)
  · have hg' := qv_vo_lt hg
    have hp := qv_p16_vo x3
    have hp' := qv_vo_lt hp
    subst hx
    refine br_f (qv_nnone hg') (pk_le g (qv_od (qv_p16 x3)) (fun z => qv_520' H (hlen o) h) (fun z => ?_))
    have e1 : nI n - 1 = nI (n - 1) := by
      obtain ⟨t, rfl⟩ : ∃ t, n = t + 1 := ⟨n - 1, by omega⟩
      exact nI_pred t
    rw [e1]
    refine qv_drop h (by rw [hlen]; omega) (fun v h1 => ?_)
    rw [hlen]
    obtain ⟨cx, cdx, ccx, a1x, a2x, a3x, a4x, a5x, a6x, a7x, a8x, a9x, a10x, a11x, a12x, a13x, a14x, a15x, a16x, a17x⟩ := v
    refine br_t rfl ?_
    rw [← hel, qv_erase_last] at h1
    refine qv_ballot h1 (by omega) hp (fun v h2 => ?_)
    obtain ⟨cy, cdy, ccy, a1y, a2y, a3y, a4y, a5y, a6y, a7y, a8y, a9y, a10y, a11y, a12y, a13y, a14y, a15y, a16y, a17y⟩ := v
    rw [hel, show n - 1 + 1 = n by omega]
    refine br_t rfl ?_
    refine qv_winners h2 hr (fun v h3 => ?_)
    obtain ⟨cz, cdz, ccz, a1z, a2z, a3z, a4z, a5z, a6z, a7z, a8z, a9z, a10z, a11z, a12z, a13z, a14z, a15z, a16z, a17z⟩ := v
    have hm := hmin _ z hp
    unfold qv_bt at hm
    rw [← hnow] at hm
    rw [qv_WR_perm (by omega)]
    generalize qv_WR (qv_cp (L.set i (qv_od (qv_p16 x3)))) L.length r = R at hm ⊢
    exact qv_477 H (hlen _) (qv_okc_ok h3) ho (Nat.le_of_not_lt hm)
theorem qv_333 (H : post 1 ()) {L : List Nat} {n i r o now : Nat} {x11 x14 : Int32} (hnow : now = qv_bp (L.getD i 0) (qv_ms (qv_WR (qv_cp L) L.length r))) (h14 : x14 = qv_WR (qv_cp (L.set i o)) L.length r) (hl : L.length = n) (hn : 1 ≤ n) (hi : i < n) (hr : r ≤ 14) (ho : qv_vo (L.getD i 0) = true)
    (hx : (x11 = -1002 ∧ ¬ qv_bt L i r o) ∨ (qv_vo o = true ∧ x11 = nI o ∧ qv_bt L i r o ∧ ∀ p, p < o → qv_vo p = true → ¬ qv_bt L i r p)) (h : qv_ok (L.eraseIdx i ++ [o]) (c, cd, cc, a1, a2, a3, a4, a5, a6, a7, a8, a9, a10, a11, a12, a13, a14, a15, a16, a17)) :
    ∃ f, wL_lawOf_333 post mc ms x3 (nI n) (nI r) (nI (L.getD i 0)) x11 (nI now) x14 kc ks c cd cc a1 a2 a3 a4 a5 a6 a7 a8 a9 a10 a11 a12 a13 a14 a15 a16 a17 f 5 0 := by
  refine qv_min (fun f x z => wL_lawOf_333 post mc ms x3 (nI n) (nI r) (nI (L.getD i 0)) x11 (nI now) x14 kc ks c cd cc a1 a2 a3 a4 a5 a6 a7 a8 a9 a10 a11 a12 a13 a14 a15 a16 a17 f x z) (m := qv_ms x14) ho (qv_ms_lt _) ?_ ?_
  · intro f q x hq hx5 hw
    have t2 := qv_pl_lt ho hq
    refine br_f (nI_ge (b := 5) hq (by decide)) (br_c (fun z => ?_) (fun z => nm_r (nI_1 q) ?_))
    · have z' : (qv_ms x14).testBit q = true := by rw [qv_ms_tb _ hq]; exact decide_eq_true z
      refine qv_lplace (qv_vo_lt ho) hq (pk_le x (qv_pl (L.getD i 0) q) (fun z2 => nm_r (nI_1 q) ?_) (fun z2 => qv_lplace (qv_vo_lt ho) hq (nm_r (nI_1 q) ?_)))
      · rw [if_neg (by omega)] at hw; exact hw
      · rw [if_pos ⟨z', z2⟩] at hw; exact hw
    · have z' : ¬ (qv_ms x14).testBit q = true := by
        rw [qv_ms_tb _ hq]
        exact fun t => z (of_decide_eq_true t)
      rw [if_neg (fun t => z' t.1)] at hw
      exact hw
  · intro f
    have l1 : now ≤ 5 := by rw [hnow]; exact qv_bp_lt _ _
    have l2 := qv_bp_lt (L.getD i 0) (qv_ms x14)
    refine br_t (nI_le (a := 5) (Nat.le_refl _) (by omega)) ?_
    rcases hx with ⟨hx, hb⟩ | ⟨hv, hx, hb, hmin⟩
    · unfold qv_bt at hb
      rw [← hnow, ← h14] at hb
      exact br_t hx (br_t (nI_le (Nat.le_of_not_lt hb) (by omega)) (qv_404 H hnow hl hn hi hr ho (Or.inl hx) h))
    · unfold qv_bt at hb
      rw [← hnow, ← h14] at hb
      refine br_f ?_ (br_t (nI_lt hb (by omega)) (qv_404 H hnow hl hn hi hr ho (Or.inr ⟨o, hv, hx, hmin⟩) h))
      rw [hx]
      exact qv_nnone (qv_vo_lt hv)
theorem qv_274 (H : post 1 ()) {L : List Nat} {n i r o now : Nat} {x11 : Int32} (hnow : now = qv_bp (L.getD i 0) (qv_ms (qv_WR (qv_cp L) L.length r))) (hl : L.length = n) (hn : 1 ≤ n) (hi : i < n) (hr : r ≤ 14) (hov : qv_vo o = true)
    (hx : (x11 = -1002 ∧ ¬ qv_bt L i r o) ∨ (qv_vo o = true ∧ x11 = nI o ∧ qv_bt L i r o ∧ ∀ p, p < o → qv_vo p = true → ¬ qv_bt L i r p)) (h : qv_ok L (c, cd, cc, a1, a2, a3, a4, a5, a6, a7, a8, a9, a10, a11, a12, a13, a14, a15, a16, a17)) :
    wL_lawOf_274 post mc ms x3 (nI n) (nI i) (nI r) (nI (L.getD i 0)) x11 (nI now) (nI o) kc ks c cd cc a1 a2 a3 a4 a5 a6 a7 a8 a9 a10 a11 a12 a13 a14 a15 a16 a17 := by
  have hn9 : n ≤ 9 := by rw [← hl]; exact h.1.1
  have ho : qv_vo (L.getD i 0) = true := h.1.2.1 _ (qv_getD_mem (by omega))
  have hel : (L.eraseIdx i).length = n - 1 := by rw [List.length_eraseIdx_of_lt (by omega), hl]
  have e1 : nI n - 1 = nI (n - 1) := by
    obtain ⟨t, rfl⟩ : ∃ t, n = t + 1 := ⟨n - 1, by omega⟩
    exact nI_pred t
  unfold wL_lawOf_274
  refine qv_drop h (by omega) (fun v h1 => ?_)
  obtain ⟨cx, cdx, ccx, a1x, a2x, a3x, a4x, a5x, a6x, a7x, a8x, a9x, a10x, a11x, a12x, a13x, a14x, a15x, a16x, a17x⟩ := v
  rw [hl]
  refine br_t e1.symm ?_
  refine qv_ballot h1 (by omega) hov (fun v h2 => ?_)
  obtain ⟨cy, cdy, ccy, a1y, a2y, a3y, a4y, a5y, a6y, a7y, a8y, a9y, a10y, a11y, a12y, a13y, a14y, a15y, a16y, a17y⟩ := v
  rw [hel, show n - 1 + 1 = n by omega]
  refine br_t rfl ?_
  rw [e1]
  refine qv_order h2 (by rw [List.length_append, hel, List.length_singleton]; omega) ?_
  rw [qv_getD_app, if_pos hel.symm]
  refine br_t rfl ?_
  refine qv_winners h2 hr (fun v h3 => ?_)
  obtain ⟨cz, cdz, ccz, a1z, a2z, a3z, a4z, a5z, a6z, a7z, a8z, a9z, a10z, a11z, a12z, a13z, a14z, a15z, a16z, a17z⟩ := v
  rw [qv_WR_perm (by omega)]
  generalize hR : qv_WR (qv_cp (L.set i o)) L.length r = R
  exact qv_333 H hnow hR.symm hl hn hi hr ho hx (qv_okc_ok h3)
theorem qv_203 (H : post 1 ()) {L : List Nat} {n i r : Nat} {x10 x11 : Int32} (h10 : x10 = qv_WR (qv_cp L) L.length r) (hl : L.length = n) (hn : 1 ≤ n) (hi : i < n) (hr : r ≤ 14)
    (hx : (x11 = -1002 ∧ ∀ p, qv_vo p = true → ¬ qv_bt L i r p) ∨ (∃ g, qv_vo g = true ∧ x11 = nI g ∧ qv_bt L i r g ∧ ∀ p, p < g → qv_vo p = true → ¬ qv_bt L i r p)) (h : qv_ok L (c, cd, cc, a1, a2, a3, a4, a5, a6, a7, a8, a9, a10, a11, a12, a13, a14, a15, a16, a17)) :
    ∃ f, wL_lawOf_203 post mc ms x3 (nI n) (nI i) (nI r) (nI (L.getD i 0)) x10 x11 kc ks c cd cc a1 a2 a3 a4 a5 a6 a7 a8 a9 a10 a11 a12 a13 a14 a15 a16 a17 f 5 0 := by
  have ho : qv_vo (L.getD i 0) = true := h.1.2.1 _ (qv_getD_mem (by omega))
  refine qv_min (fun f x z => wL_lawOf_203 post mc ms x3 (nI n) (nI i) (nI r) (nI (L.getD i 0)) x10 x11 kc ks c cd cc a1 a2 a3 a4 a5 a6 a7 a8 a9 a10 a11 a12 a13 a14 a15 a16 a17 f x z) (m := qv_ms x10) ho (qv_ms_lt _) ?_ ?_
  · intro f q x hq hx5 hw
    have t2 := qv_pl_lt ho hq
    refine br_f (nI_ge (b := 5) hq (by decide)) (br_c (fun z => ?_) (fun z => nm_r (nI_1 q) ?_))
    · have z' : (qv_ms x10).testBit q = true := by rw [qv_ms_tb _ hq]; exact decide_eq_true z
      refine qv_lplace (qv_vo_lt ho) hq (pk_le x (qv_pl (L.getD i 0) q) (fun z2 => nm_r (nI_1 q) ?_) (fun z2 => qv_lplace (qv_vo_lt ho) hq (nm_r (nI_1 q) ?_)))
      · rw [if_neg (by omega)] at hw; exact hw
      · rw [if_pos ⟨z', z2⟩] at hw; exact hw
    · have z' : ¬ (qv_ms x10).testBit q = true := by
        rw [qv_ms_tb _ hq]
        exact fun t => z (of_decide_eq_true t)
      rw [if_neg (fun t => z' t.1)] at hw
      exact hw
  · intro f
    have hnow : qv_bp (L.getD i 0) (qv_ms x10) = qv_bp (L.getD i 0) (qv_ms (qv_WR (qv_cp L) L.length r)) := by rw [h10]
    generalize qv_bp (L.getD i 0) (qv_ms x10) = now at hnow ⊢
    refine br_t (nI_le (a := 5) (Nat.le_refl _) (by omega)) ?_
    rcases hx with ⟨hx, hb⟩ | ⟨g, hv, hx, hb, hmin⟩
    · exact br_t hx ⟨by decide, qv_lorder16 (qv_274 H hnow hl hn hi hr (qv_p16_vo x3) (Or.inl ⟨hx, hb _ (qv_p16_vo x3)⟩) h)⟩
    · subst hx
      exact br_f (qv_nnone (qv_vo_lt hv)) (qv_274 H hnow hl hn hi hr hv (Or.inr ⟨hv, rfl, hb, hmin⟩) h)
end
end
section
/-! the top -/
section
variable {c cd cc : Int32} {a1 a2 a3 a4 a5 a6 a7 a8 a9 a10 a11 a12 a13 a14 a15 a16 a17 : Nat → Int32}
variable {post : Int32 → St0 → Prop} {mc ms kc ks : Nat} {w v x3 : Int32}
theorem qv_24 (H : post 1 ()) {n : Nat} (hn : 1 ≤ n) (hn9 : n ≤ 9) : ∀ (d k : Nat) (c cd cc : Int32) (a1 a2 a3 a4 a5 a6 a7 a8 a9 a10 a11 a12 a13 a14 a15 a16 a17 : Nat → Int32), k + d = n → qv_ok (qv_LL w v k) (c, cd, cc, a1, a2, a3, a4, a5, a6, a7, a8, a9, a10, a11, a12, a13, a14, a15, a16, a17) → wL_lawOf_24 post mc ms w v x3 (nI n) kc ks (d + 1) (nI k) c cd cc a1 a2 a3 a4 a5 a6 a7 a8 a9 a10 a11 a12 a13 a14 a15 a16 a17 := by
  intro d
  induction d with
  | zero =>
    intro k c cd cc a1 a2 a3 a4 a5 a6 a7 a8 a9 a10 a11 a12 a13 a14 a15 a16 a17 hk h
    have e : k = n := by omega
    subst e
    have hlen := qv_LL_len w v k
    refine br_t (nI_le (Nat.le_refl _) (by omega)) (qv_lbeaten hn9 ?_)
    refine qv_lscores hn9 h (fun u h1 => ?_)
    obtain ⟨cp, cdp, ccp, a1p, a2p, a3p, a4p, a5p, a6p, a7p, a8p, a9p, a10p, a11p, a12p, a13p, a14p, a15p, a16p, a17p⟩ := u
    refine br_f (by decide) ?_
    refine qv_lsets h1 (fun u h2 => ?_)
    obtain ⟨cq, cdq, ccq, a1q, a2q, a3q, a4q, a5q, a6q, a7q, a8q, a9q, a10q, a11q, a12q, a13q, a14q, a15q, a16q, a17q⟩ := u
    refine br_f (by decide) ?_
    have ec := h2.1.2.2.1
    rw [hlen] at ec
    refine br_t ec ?_
    have hb : ∀ P : Int32 → Prop, P (-1000) → wpX_order P (cq, cdq, ccq, a1q, a2q, a3q, a4q, a5q, a6q, a7q, a8q, a9q, a10q, a11q, a12q, a13q, a14q, a15q, a16q, a17q) (nI k) := by
      intro P hP
      have t := qv_order_bad (post := P) h2 hP
      rwa [hlen] at t
    have hd : ∀ P : Int32 → St2 → Prop, P (-1000) (cq, cdq, ccq, a1q, a2q, a3q, a4q, a5q, a6q, a7q, a8q, a9q, a10q, a11q, a12q, a13q, a14q, a15q, a16q, a17q) → wpX_drop P (cq, cdq, ccq, a1q, a2q, a3q, a4q, a5q, a6q, a7q, a8q, a9q, a10q, a11q, a12q, a13q, a14q, a15q, a16q, a17q) (nI k) := by
      intro P hP
      have t := qv_drop_bad (post := P) h2 hP
      rwa [hlen] at t
    refine hb _ (br_t rfl ?_)
    refine hd _ ?_
    refine br_t rfl ?_
    obtain ⟨j7, hj7, e7⟩ := pk_andE x3 (m := 255) 8 (by decide)
    obtain ⟨j8, hj8, e8⟩ := pk_andE (x3 >>> ((8 : Int32) &&& 31)) (m := 255) 8 (by decide)
    rw [e7, e8]
    have hi : j7 % k < k := Nat.mod_lt _ (by omega)
    have hr : j8 % 15 < 15 := Nat.mod_lt _ (by omega)
    refine ⟨nI_ne0 (by omega) (by omega), nm_r (pk_rem (a := j7) (d := k) (by omega) (by omega) (by omega)) ⟨by decide, nm_r (e' := nI (j8 % 15)) (pk_rem (d := 15) (by omega) (by omega) (by omega)) ?_⟩⟩
    generalize j7 % k = i at hi ⊢
    generalize j8 % 15 = r at hr ⊢
    refine qv_lballot (by omega) ?_
    rw [← qv_LL_at (w := w) (u := v) hi]
    refine qv_winners h2 (by omega) (fun u h3 => ?_)
    obtain ⟨cr, cdr, ccr, a1r, a2r, a3r, a4r, a5r, a6r, a7r, a8r, a9r, a10r, a11r, a12r, a13r, a14r, a15r, a16r, a17r⟩ := u
    generalize hR : qv_WR (qv_cp (qv_LL w v k)) (qv_LL w v k).length r = R
    refine qv_gain (qv_okc_ok h3) (by rw [hlen]; exact hi) (by omega) (fun hno u h4 => ?_) (fun g hg hbt hmin u h4 => ?_)
    · obtain ⟨cs, cds, ccs, a1s, a2s, a3s, a4s, a5s, a6s, a7s, a8s, a9s, a10s, a11s, a12s, a13s, a14s, a15s, a16s, a17s⟩ := u
      exact qv_203 H hR.symm hlen hn hi (by omega) (Or.inl ⟨rfl, hno⟩) h4
    · obtain ⟨cs, cds, ccs, a1s, a2s, a3s, a4s, a5s, a6s, a7s, a8s, a9s, a10s, a11s, a12s, a13s, a14s, a15s, a16s, a17s⟩ := u
      exact qv_203 H hR.symm hlen hn hi (by omega) (Or.inr ⟨g, hg, rfl, hbt, hmin⟩) h4
  | succ d ih =>
    intro k c cd cc a1 a2 a3 a4 a5 a6 a7 a8 a9 a10 a11 a12 a13 a14 a15 a16 a17 hk h
    have hlen := qv_LL_len w v k
    have hv := qv_bl_vo w v k
    refine br_f (nI_ge (by omega) (by omega)) (qv_lballot (by omega) ?_)
    refine qv_ballot h (by omega) hv (fun u h1 => ?_)
    obtain ⟨cp, cdp, ccp, a1p, a2p, a3p, a4p, a5p, a6p, a7p, a8p, a9p, a10p, a11p, a12p, a13p, a14p, a15p, a16p, a17p⟩ := u
    rw [hlen]
    refine br_t (nI_1 k).symm ?_
    refine qv_order h1 (by rw [List.length_append, List.length_singleton]; omega) ?_
    rw [qv_getD_app, if_pos hlen.symm]
    refine br_t rfl (nm_r (nI_1 k) (ih (k + 1) cp cdp ccp a1p a2p a3p a4p a5p a6p a7p a8p a9p a10p a11p a12p a13p a14p a15p a16p a17p (by omega) ?_))
    rw [qv_LL_s]
    exact h1
theorem qv_lawOf (H : post 1 ()) {p2 : Int32} (hmc : 18 ≤ mc) (hms : 4864 ≤ ms) : wpL_lawOf post mc ms () w v p2 x3 := by
  obtain ⟨j, hj, e⟩ := pk_andE p2 (m := 255) 8 (by decide)
  have e9 : (1 : Int32) + ((p2 &&& 255) - (p2 &&& 255) / 9 * 9) = nI (1 + j % 9) := by
    rw [e, show nI j - nI j / 9 * 9 = nI (j % 9) from pk_rem (d := 9) (by omega) (by omega) (by omega)]
    exact nI_add 1 (j % 9)
  have h9 : j % 9 < 9 := Nat.mod_lt _ (by omega)
  refine ⟨by omega, by omega, 17, 4844, by omega, by omega, ?_⟩
  unfold wpX_init
  dsimp only
  refine ⟨by omega, by omega, by omega, by omega, by omega, by omega, by omega, by omega, by omega, by omega, by omega, by omega, by omega, by omega, by omega, by omega, by omega, by omega, by omega, by omega, by omega, by omega, by omega, by omega, by omega, by omega, by omega, by omega, by omega, by omega, by omega, by omega, by omega, by omega, ?_⟩
  refine ⟨by decide, nm_r e9 ⟨(1 + j % 9) + 1, ?_⟩⟩
  refine qv_24 H (by omega) (by omega) (1 + j % 9) 0 _ _ _ _ _ _ _ _ _ _ _ _ _ _ _ _ _ _ _ _ (by omega) ?_
  refine ⟨⟨Nat.zero_le _, fun o ho => absurd ho (by show ¬ o ∈ []; simp), rfl, fun i hi => absurd hi (by show ¬ i < 0; omega), fun i k hi => absurd hi (by show ¬ i < 0; omega)⟩, fun z => absurd rfl z, ⟨fun _ _ => rfl, fun _ _ => rfl, fun _ _ => rfl, fun _ _ => rfl, fun _ _ => rfl, fun _ _ => rfl, fun _ _ => rfl⟩⟩
end
theorem qv_cell {P : Int32 → Prop} {L : Nat} {xs : Nat → Int32} {i : Nat} (hL : L ≤ 4) (hi : i < 4) (H : ∀ x, P x) : wpL_cellAt P L xs () (nI i) := by
  refine pk_le L i (fun _ => H _) (fun z => ⟨pk_in i L z, H _⟩)
theorem i_vc (xs : Nat → Int32) (L : Nat) (hL : L ≤ 4) : wpL_law (fun r => r = 1) L xs := by
  unfold wpL_law
  refine qv_cell (i := 0) hL (by omega) (fun w => ?_)
  refine qv_cell (i := 1) hL (by omega) (fun v => ?_)
  refine qv_cell (i := 2) hL (by omega) (fun p2 => ?_)
  refine qv_cell (i := 3) hL (by omega) (fun p3 => ?_)
  exact ⟨666, 10640, by omega, by omega, qv_lawOf rfl (by omega) (by omega)⟩
end
