section
/-! encodings: a natural n stands for an option (0: none, n + 1: the number n) -/
def pl_z : Nat → Int32
  | 0 => -1
  | n + 1 => nI n
theorem pl_y (n : Nat) : nI n - 1 = pl_z n := by
  cases n with
  | zero => decide
  | succ n => exact nI_pred n
theorem pl_zy (n : Nat) : pl_z n + 1 = nI n := by
  cases n with
  | zero => decide
  | succ n => exact nI_1 n
theorem pl_neg {x : Int32} (e : x = pl_z 0) : x < 0 := by
  rw [e]; show (-1 : Int32) < 0; decide
theorem pl_ng {x : Int32} (e : x = pl_z 0) : ¬ 0 ≤ x := by
  rw [e]; show ¬ (0 : Int32) ≤ -1; decide
theorem pl_nn {x : Int32} {n : Nat} (e : x = nI n) (h : n < 2 ^ 31) : ¬ x < 0 := by
  rw [e]; exact nI_pos h
theorem pl_ge {x : Int32} {n : Nat} (e : x = nI n) (h : n < 2 ^ 31) : 0 ≤ x := by
  rw [e]; exact nI_pos' h
theorem pl_zeq {a b : Nat} (ha : a < 2 ^ 31) (hb : b < 2 ^ 31) : pl_z a = nI b ↔ a = b + 1 := by
  cases a with
  | zero =>
    constructor
    · intro h
      have h2 := congrArg Int32.toInt h
      rw [nI_toInt hb] at h2
      have h3 : (pl_z 0).toInt = -1 := by decide
      omega
    · intro h; omega
  | succ a =>
    show nI a = nI b ↔ _
    rw [nI_eq (by omega) hb]; omega
theorem pl_in {x : Int32} {n N : Nat} (e : x = nI n) (h : n < N) (hN : N < 2 ^ 31) : vp_in x N := by
  rw [e]; exact vp_in_nI h hN
theorem pl_rd {f E : Nat → Int32} {F : Nat → Nat} {N i : Nat} {x : Int32} (hf : ∀ t, t < N → f t = E (F t)) (hi : i < N) (hN : N < 100) (e : x = nI i) : f x.toNatClampNeg = E (F i) := by
  rw [e, nI_clamp (by omega)]; exact hf i hi
theorem pl_us {f : Nat → Int32} {k : Nat} {x : Int32} : upd f k x k = x := if_pos rfl
theorem pl_un {f : Nat → Int32} {k j : Nat} {x : Int32} (h : j ≠ k) : upd f k x j = f j := if_neg h
theorem pl_b : ∀ n, n < 16 → vp_nar .byte (nI n).toInt8.toInt32 = nI n := by
  intro n hn
  rw [vp_nar_byte]
  exact (by decide +kernel : ∀ n, n < 16 → (nI n).toInt8.toInt32.toInt8.toInt32 = nI n) n hn
theorem pl_bm : vp_nar .byte (-1) = pl_z 0 := by rw [vp_nar_byte]; decide
theorem pl_bz : ∀ n, n < 16 → vp_nar .byte (pl_z n).toInt8.toInt32 = pl_z n := by
  intro n hn
  cases n with
  | zero => rw [vp_nar_byte]; decide
  | succ n => exact pl_b n (by omega)
/-! bounds of counters -/
theorem pl_6 : (6 : Int32) = nI 6 := by decide
theorem pl_5 : (5 : Int32) = nI 5 := by decide
theorem pl_4 : (4 : Int32) = nI 4 := by decide
theorem pl_9 : (9 : Int32) = nI 9 := by decide
theorem pl_n6 {i : Nat} (h : i < 6) : ¬ (6 : Int32) ≤ nI i := by
  rw [pl_6]; exact nI_ge h (by decide)
theorem pl_n5 {i : Nat} (h : i < 5) : ¬ (5 : Int32) ≤ nI i := by
  rw [pl_5]; exact nI_ge h (by decide)
theorem pl_e6 : (6 : Int32) ≤ nI 6 := by decide
theorem pl_e5 : (5 : Int32) ≤ nI 5 := by decide
theorem pl_10 : ¬ (1 : Int32) = 0 := by decide
/-! masks below 64 -/
theorem pl_or : ∀ m, m < 64 → ∀ i, i < 6 → nI m ||| ((1 : Int32) <<< (nI i &&& 31)) = nI (m ||| 2 ^ i) := by decide +kernel
theorem pl_tb : ∀ m, m < 64 → ∀ h, h < 6 → (((nI m >>> (nI h &&& 31)) &&& 1) = 1 ↔ m.testBit h = true) := by decide +kernel
theorem pl_or0 (m : Nat) : nI m ||| 0 = nI m := Int32.or_zero
theorem pl_m64 {m i : Nat} (hm : m < 64) (hi : i < 6) : m ||| 2 ^ i < 64 := by
  have h2 : 2 ^ i < 2 ^ 6 := Nat.pow_lt_pow_right (by decide) hi
  exact Nat.or_lt_two_pow (n := 6) hm h2
theorem pl_tor (m i j : Nat) : (m ||| 2 ^ i).testBit j = true ↔ m.testBit j = true ∨ j = i := by
  rw [Nat.testBit_or, Nat.testBit_two_pow]
  simp only [Bool.or_eq_true, decide_eq_true_eq]
  constructor
  · intro h; rcases h with h | h
    · exact Or.inl h
    · exact Or.inr h.symm
  · intro h; rcases h with h | h
    · exact Or.inl h
    · exact Or.inr h.symm
theorem pl_thi {m j : Nat} (hm : m < 64) (hj : 6 ≤ j) : m.testBit j = false := by
  apply Nat.testBit_lt_two_pow
  exact Nat.lt_of_lt_of_le hm (show 2 ^ 6 ≤ 2 ^ j from Nat.pow_le_pow_right (by decide) hj)
theorem pl_meq {a b : Nat} (ha : a < 64) (hb : b < 64) (h : ∀ j, j < 6 → (a.testBit j = true ↔ b.testBit j = true)) : a = b := by
  apply Nat.eq_of_testBit_eq
  intro j
  by_cases hj : j < 6
  · exact Bool.eq_iff_iff.mpr (h j hj)
  · rw [pl_thi ha (by omega), pl_thi hb (by omega)]
/-! an 'if' over any proposition, and the store into a function of naturals -/
noncomputable def pl_if (p : Prop) (a b : Nat) : Nat := @ite Nat p (Classical.propDecidable p) a b
theorem pl_if_t {p : Prop} {a b : Nat} (h : p) : pl_if p a b = a := if_pos h
theorem pl_if_f {p : Prop} {a b : Nat} (h : ¬ p) : pl_if p a b = b := if_neg h
def pl_u (f : Nat → Nat) (k x : Nat) : Nat → Nat := fun j => if j = k then x else f j
theorem pl_uS {f : Nat → Nat} {k x : Nat} : pl_u f k x k = x := if_pos rfl
theorem pl_uN {f : Nat → Nat} {k j x : Nat} (h : j ≠ k) : pl_u f k x j = f j := if_neg h
theorem pl_uid {f : Nat → Nat} {k x : Nat} (h : x = f k) : pl_u f k x = f := by
  funext j
  by_cases e : j = k
  · rw [e, pl_uS, h]
  · rw [pl_uN e]
/-- a store on the machine is a store in the picture -/
theorem pl_st {a : Nat → Int32} {c : Nat → Int32} {f : Nat → Nat} {N k x : Nat} {y : Int32} (e : Nat → Int32) (h : ∀ t, t < N → a t = e (f t)) (hc : c = upd a k y) (hy : y = e x) : ∀ t, t < N → c t = e (pl_u f k x t) := by
  intro t ht
  by_cases z : t = k
  · rw [hc, z, pl_us, pl_uS, hy]
  · rw [hc, pl_un z, pl_uN z, h t ht]
end
section
/-! ===== the forest: P s = 0: s waits for nobody, P s = h + 1: it waits for h ===== -/
def pl_P (W H : Nat → Nat) (s : Nat) : Nat := if W s = 0 then 0 else H (W s - 1)
theorem pl_P0 {W H : Nat → Nat} {s : Nat} (h : W s = 0) : pl_P W H s = 0 := if_pos h
theorem pl_Ps {W H : Nat → Nat} {s l : Nat} (h : W s = l + 1) : pl_P W H s = H l := by
  unfold pl_P
  rw [if_neg (by omega), h, Nat.add_sub_cancel]
/-- a rank that falls from each thread to the one it waits for -/
def pl_Rk (P d : Nat → Nat) : Prop := ∀ s, s < 6 → ∀ h, P s = h + 1 → h < 6 ∧ d h < d s
/-! counting makes any rank one below 6 -/
def pl_i (a b : Nat) : Nat := if a < b then 1 else 0
theorem pl_i_le (a : Nat) {v w : Nat} (h : v ≤ w) : pl_i a v ≤ pl_i a w := by
  unfold pl_i
  by_cases h1 : a < v
  · rw [if_pos h1, if_pos (by omega)]; omega
  · rw [if_neg h1]; omega
theorem pl_i_1 (a v : Nat) : pl_i a v ≤ 1 := by
  unfold pl_i
  by_cases h1 : a < v
  · rw [if_pos h1]; omega
  · rw [if_neg h1]; omega
theorem pl_i_0 (a : Nat) : pl_i a a = 0 := if_neg (by omega)
theorem pl_i_lt {a v : Nat} (h : a < v) : pl_i a v = 1 := if_pos h
def pl_cn (d : Nat → Nat) (v : Nat) : Nat := pl_i (d 0) v + pl_i (d 1) v + pl_i (d 2) v + pl_i (d 3) v + pl_i (d 4) v + pl_i (d 5) v
theorem pl_6c {s : Nat} (h : s < 6) : s = 0 ∨ s = 1 ∨ s = 2 ∨ s = 3 ∨ s = 4 ∨ s = 5 := by omega
theorem pl_cn_lt (d : Nat → Nat) {s : Nat} (hs : s < 6) : pl_cn d (d s) < 6 := by
  have z := pl_i_0 (d s)
  have a0 := pl_i_1 (d 0) (d s)
  have a1 := pl_i_1 (d 1) (d s)
  have a2 := pl_i_1 (d 2) (d s)
  have a3 := pl_i_1 (d 3) (d s)
  have a4 := pl_i_1 (d 4) (d s)
  have a5 := pl_i_1 (d 5) (d s)
  unfold pl_cn
  rcases pl_6c hs with e | e | e | e | e | e <;> subst e <;> omega
theorem pl_cn_mono (d : Nat → Nat) {s v : Nat} (hs : s < 6) (h : d s < v) : pl_cn d (d s) < pl_cn d v := by
  have z := pl_i_0 (d s)
  have o := pl_i_lt h
  have a0 := pl_i_le (d 0) (Nat.le_of_lt h)
  have a1 := pl_i_le (d 1) (Nat.le_of_lt h)
  have a2 := pl_i_le (d 2) (Nat.le_of_lt h)
  have a3 := pl_i_le (d 3) (Nat.le_of_lt h)
  have a4 := pl_i_le (d 4) (Nat.le_of_lt h)
  have a5 := pl_i_le (d 5) (Nat.le_of_lt h)
  unfold pl_cn
  rcases pl_6c hs with e | e | e | e | e | e <;> subst e <;> omega
theorem pl_rk6 {P d : Nat → Nat} (R : pl_Rk P d) : ∃ e : Nat → Nat, pl_Rk P e ∧ ∀ s, s < 6 → e s < 6 := by
  refine ⟨fun s => pl_cn d (d s), ?_, fun s hs => pl_cn_lt d hs⟩
  intro s hs h e
  obtain ⟨h6, hd⟩ := R s hs h e
  exact ⟨h6, pl_cn_mono d h6 hd⟩
/-! ===== reach: s waits, directly or through others, for t ===== -/
def pl_dp (P : Nat → Nat) (t : Nat) : Nat → Nat → Prop
  | 0, _ => False
  | n + 1, s => ∃ h, P s = h + 1 ∧ (h = t ∨ pl_dp P t n h)
def pl_Rc (P : Nat → Nat) (s t : Nat) : Prop := ∃ n, pl_dp P t n s
theorem pl_Rc_iff {P : Nat → Nat} {s t : Nat} : pl_Rc P s t ↔ ∃ h, P s = h + 1 ∧ (h = t ∨ pl_Rc P h t) := by
  constructor
  · intro ⟨n, hn⟩
    cases n with
    | zero => exact hn.elim
    | succ n =>
      obtain ⟨h, e, r⟩ := hn
      exact ⟨h, e, r.imp id (fun x => ⟨n, x⟩)⟩
  · intro ⟨h, e, r⟩
    rcases r with r | ⟨n, hn⟩
    · exact ⟨1, h, e, Or.inl r⟩
    · exact ⟨n + 1, h, e, Or.inr hn⟩
theorem pl_Rc_0 {P : Nat → Nat} {s t : Nat} (e : P s = 0) : ¬ pl_Rc P s t := by
  intro h
  obtain ⟨g, e2, _⟩ := pl_Rc_iff.mp h
  omega
theorem pl_Rc_s {P : Nat → Nat} {s t h : Nat} (e : P s = h + 1) : pl_Rc P s t ↔ h = t ∨ pl_Rc P h t := by
  constructor
  · intro r
    obtain ⟨g, e2, r2⟩ := pl_Rc_iff.mp r
    have : g = h := by omega
    subst this
    exact r2
  · intro r
    exact pl_Rc_iff.mpr ⟨h, e, r⟩
/-! ===== ranks behind the changes ===== -/
theorem pl_rk_sub {P P' d : Nat → Nat} (R : pl_Rk P d) (o : ∀ x, x < 6 → P' x = P x ∨ P' x = 0) : pl_Rk P' d := by
  intro s hs h e
  rcases o s hs with z | z
  · exact R s hs h (by omega)
  · omega
theorem pl_rk_take {P P' d : Nat → Nat} {t h : Nat} (R : pl_Rk P d) (hh : h < 6) (e : P' t = h + 1) (o : ∀ x, x < 6 → x ≠ t → P' x = P x) (n1 : h ≠ t) (n2 : ¬ pl_Rc P h t) : ∃ d', pl_Rk P' d' := by
  refine ⟨fun x => pl_if (x = t ∨ pl_Rc P x t) (d x + d h + 1) (d x), ?_⟩
  intro s hs g eg
  dsimp only
  by_cases z : s = t
  · subst z
    have : g = h := by omega
    subst this
    refine ⟨hh, ?_⟩
    rw [pl_if_t (Or.inl rfl), pl_if_f (fun c => c.elim n1 n2)]
    omega
  · rw [o s hs z] at eg
    obtain ⟨g6, gd⟩ := R s hs g eg
    refine ⟨g6, ?_⟩
    by_cases c : pl_Rc P s t
    · rw [pl_if_t (p := s = t ∨ pl_Rc P s t) (Or.inr c), pl_if_t ((pl_Rc_s eg).mp c)]
      omega
    · rw [pl_if_f (p := s = t ∨ pl_Rc P s t) (fun x => x.elim z c), pl_if_f (fun x => c ((pl_Rc_s eg).mpr x))]
      exact gd
theorem pl_rk_give {P P' d : Nat → Nat} {q : Nat} (R : pl_Rk P d) (hq : q < 6) (e : P' q = 0) (o : ∀ x, x < 6 → x ≠ q → P' x = P x ∨ P' x = q + 1) : ∃ d', pl_Rk P' d' := by
  refine ⟨fun x => if x = q then 0 else d x + 1, ?_⟩
  intro s hs g eg
  dsimp only
  have z : s ≠ q := by intro z; rw [z] at eg; omega
  rw [if_neg z]
  rcases o s hs z with w | w
  · obtain ⟨g6, gd⟩ := R s hs g (by omega)
    refine ⟨g6, ?_⟩
    by_cases y : g = q
    · rw [if_pos y]; omega
    · rw [if_neg y]; omega
  · have : g = q := by omega
    subst this
    rw [if_pos rfl]
    exact ⟨hq, by omega⟩
/-! ===== the greatest lent: m is the greatest of t's base and of the urgencies of those below i that wait for t ===== -/
def pl_Lp (B U P : Nat → Nat) (t i m : Nat) : Prop := B t ≤ m ∧ (∀ s, s < i → P s = t + 1 → U s ≤ m) ∧ (m = B t ∨ ∃ s, s < 6 ∧ P s = t + 1 ∧ m = U s)
/-- t's urgency is what it must be -/
def pl_Fx (B U P : Nat → Nat) (t : Nat) : Prop := pl_Lp B U P t 6 (U t)
theorem pl_Lp_0 {B U P : Nat → Nat} {t : Nat} : pl_Lp B U P t 0 (B t) := ⟨Nat.le_refl _, fun s hs _ => absurd hs (Nat.not_lt_zero s), Or.inl rfl⟩
theorem pl_Lp_n {B U P : Nat → Nat} {t i m : Nat} (L : pl_Lp B U P t i m) (h : P i ≠ t + 1 ∨ U i ≤ m) : pl_Lp B U P t (i + 1) m := by
  refine ⟨L.1, fun s hs e => ?_, L.2.2⟩
  by_cases z : s = i
  · subst z
    rcases h with h | h
    · exact absurd e h
    · exact h
  · exact L.2.1 s (by omega) e
theorem pl_Lp_y {B U P : Nat → Nat} {t i m : Nat} (L : pl_Lp B U P t i m) (hi : i < 6) (e : P i = t + 1) (h : m < U i) : pl_Lp B U P t (i + 1) (U i) := by
  refine ⟨?_, fun s hs es => ?_, Or.inr ⟨i, hi, e, rfl⟩⟩
  · have := L.1; omega
  · by_cases z : s = i
    · subst z; exact Nat.le_refl _
    · have := L.2.1 s (by omega) es; omega
theorem pl_Lp_9 {B U P : Nat → Nat} {t m i : Nat} (L : pl_Lp B U P t i m) (ht : t < 6) (hB : ∀ s, s < 6 → B s ≤ 9) (hU : ∀ s, s < 6 → U s ≤ 9) : m ≤ 9 := by
  rcases L.2.2 with e | ⟨s, hs, _, e⟩
  · rw [e]; exact hB t ht
  · rw [e]; exact hU s hs
theorem pl_Fx_cg {B U P B' P' : Nat → Nat} {x : Nat} (F : pl_Fx B U P x) (hB : B' x = B x) (hP : ∀ s, s < 6 → (P' s = x + 1 ↔ P s = x + 1)) : pl_Fx B' U P' x := by
  refine ⟨by rw [hB]; exact F.1, fun s hs e => F.2.1 s hs ((hP s hs).mp e), ?_⟩
  rcases F.2.2 with e | ⟨s, hs, es, e⟩
  · exact Or.inl (by rw [hB]; exact e)
  · exact Or.inr ⟨s, hs, (hP s hs).mpr es, e⟩
/-! one step of refresh -/
theorem pl_ref_s {B U P : Nat → Nat} {s m : Nat} (n : P s ≠ s + 1) (L : pl_Lp B U P s 6 m) : pl_Fx B (pl_u U s m) P s := by
  unfold pl_Fx
  rw [pl_uS]
  refine ⟨L.1, fun c hc e => ?_, ?_⟩
  · have z : c ≠ s := by intro z; rw [z] at e; exact n e
    rw [pl_uN z]
    exact L.2.1 c hc e
  · rcases L.2.2 with e | ⟨c, hc, ec, e⟩
    · exact Or.inl e
    · have z : c ≠ s := by intro z; rw [z] at ec; exact n ec
      exact Or.inr ⟨c, hc, ec, by rw [pl_uN z]; exact e⟩
theorem pl_ref_o {B U P : Nat → Nat} {s m x : Nat} (hx : x ≠ s) (hp : P s ≠ x + 1) (F : pl_Fx B U P x) : pl_Fx B (pl_u U s m) P x := by
  unfold pl_Fx
  rw [pl_uN hx]
  refine ⟨F.1, fun c hc e => ?_, ?_⟩
  · have z : c ≠ s := by intro z; rw [z] at e; exact hp e
    rw [pl_uN z]
    exact F.2.1 c hc e
  · rcases F.2.2 with e | ⟨c, hc, ec, e⟩
    · exact Or.inl e
    · have z : c ≠ s := by intro z; rw [z] at ec; exact hp ec
      exact Or.inr ⟨c, hc, ec, by rw [pl_uN z]; exact e⟩
/-! ===== lending by passes: k whole passes, and i threads of the next ===== -/
def pl_La (B U P d : Nat → Nat) (k i : Nat) (V : Nat → Nat) : Prop := (∀ s, s < 6 → B s ≤ V s ∧ V s ≤ U s) ∧ (∀ s, s < 6 → 6 ≤ d s + k → V s = U s) ∧ (∀ s, s < i → s < 6 → 6 ≤ d s + k → ∀ h, P s = h + 1 → U s ≤ V h)
theorem pl_La_0 {B U P d V : Nat → Nat} (hd : ∀ s, s < 6 → d s < 6) (F : ∀ s, s < 6 → pl_Fx B U P s) (hV : ∀ s, s < 6 → V s = B s) : pl_La B U P d 0 0 V := by
  refine ⟨fun s hs => ?_, fun s hs h => ?_, fun s hs => absurd hs (Nat.not_lt_zero s)⟩
  · rw [hV s hs]; exact ⟨Nat.le_refl _, (F s hs).1⟩
  · have := hd s hs; omega
theorem pl_La_n {B U P d V : Nat → Nat} {k i : Nat} (L : pl_La B U P d k i V) (hi : i < 6) (c : ∀ h, P i = h + 1 → V i ≤ V h) : pl_La B U P d k (i + 1) V := by
  refine ⟨L.1, L.2.1, fun s hs h6 hd h e => ?_⟩
  by_cases z : s = i
  · subst z
    rw [← L.2.1 s h6 hd]
    exact c h e
  · exact L.2.2 s (by omega) h6 hd h e
theorem pl_La_y {B U P d V : Nat → Nat} {k i h : Nat} (L : pl_La B U P d k i V) (hi : i < 6) (hh : h < 6) (e : P i = h + 1) (c : V h < V i) (f : U i ≤ U h) : pl_La B U P d k (i + 1) (pl_u V h (V i)) := by
  have ai := L.1 i hi
  have ah := L.1 h hh
  refine ⟨fun s hs => ?_, fun s hs hd => ?_, fun s hs h6 hd g eg => ?_⟩
  · by_cases z : s = h
    · subst z; rw [pl_uS]; omega
    · rw [pl_uN z]; exact L.1 s hs
  · by_cases z : s = h
    · subst z
      have := L.2.1 s hs hd
      omega
    · rw [pl_uN z]; exact L.2.1 s hs hd
  · by_cases y : s = i
    · subst y
      have : g = h := by omega
      subst this
      rw [pl_uS, L.2.1 s h6 hd]
      exact Nat.le_refl _
    · have b := L.2.2 s (by omega) h6 hd g eg
      by_cases z : g = h
      · subst z; rw [pl_uS]; omega
      · rw [pl_uN z]; exact b
theorem pl_La_s {B U P d V : Nat → Nat} {k : Nat} (L : pl_La B U P d k 6 V) (R : pl_Rk P d) (F : ∀ s, s < 6 → pl_Fx B U P s) : pl_La B U P d (k + 1) 0 V := by
  refine ⟨L.1, fun s hs hd => ?_, fun s hs => absurd hs (Nat.not_lt_zero s)⟩
  have a := L.1 s hs
  rcases (F s hs).2.2 with e | ⟨c, hc, ec, e⟩
  · omega
  · have r := (R c hc s ec).2
    have b := L.2.2 c hc hc (by omega) s ec
    omega
theorem pl_La_6 {B U P d V : Nat → Nat} (L : pl_La B U P d 6 0 V) : ∀ s, s < 6 → V s = U s := fun s hs => L.2.1 s hs (by omega)
/-! ===== who stands behind t, by passes ===== -/
def pl_Be (P d : Nat → Nat) (t k i m : Nat) : Prop := m < 64 ∧ (∀ s, s < 6 → m.testBit s = true → pl_Rc P s t) ∧ (∀ s, s < 6 → d s < k → pl_Rc P s t → m.testBit s = true) ∧ (∀ s, s < i → s < 6 → d s < k + 1 → pl_Rc P s t → m.testBit s = true)
theorem pl_Be_0 {P d : Nat → Nat} {t : Nat} : pl_Be P d t 0 0 0 := by
  refine ⟨by decide, fun s _ h => ?_, fun s _ h => absurd h (Nat.not_lt_zero _), fun s h => absurd h (Nat.not_lt_zero _)⟩
  rw [Nat.zero_testBit] at h
  exact absurd h (by decide)
theorem pl_Be_n {P d : Nat → Nat} {t k i m : Nat} (R : pl_Rk P d) (L : pl_Be P d t k i m) (c : ∀ h, P i = h + 1 → h ≠ t ∧ ¬ m.testBit h = true) : pl_Be P d t k (i + 1) m := by
  refine ⟨L.1, L.2.1, L.2.2.1, fun s hs h6 hd r => ?_⟩
  by_cases z : s = i
  · subst z
    obtain ⟨h, e, r2⟩ := pl_Rc_iff.mp r
    obtain ⟨c1, c2⟩ := c h e
    obtain ⟨hh, dh⟩ := R s h6 h e
    rcases r2 with r2 | r2
    · exact absurd r2 c1
    · exact absurd (L.2.2.1 h hh (by omega) r2) c2
  · exact L.2.2.2 s (by omega) h6 hd r
theorem pl_Be_y {P d : Nat → Nat} {t k i m h : Nat} (R : pl_Rk P d) (L : pl_Be P d t k i m) (hi : i < 6) (e : P i = h + 1) (c : h = t ∨ m.testBit h = true) : pl_Be P d t k (i + 1) (m ||| 2 ^ i) := by
  refine ⟨pl_m64 L.1 hi, fun s hs b => ?_, fun s hs hd r => (pl_tor _ _ _).mpr (Or.inl (L.2.2.1 s hs hd r)), fun s hs h6 hd r => ?_⟩
  · rcases (pl_tor _ _ _).mp b with b | b
    · exact L.2.1 s hs b
    · subst b
      apply (pl_Rc_s e).mpr
      rcases c with c | c
      · exact Or.inl c
      · exact Or.inr (L.2.1 h (R s hs h e).1 c)
  · by_cases z : s = i
    · exact (pl_tor _ _ _).mpr (Or.inr z)
    · exact (pl_tor _ _ _).mpr (Or.inl (L.2.2.2 s (by omega) h6 hd r))
theorem pl_Be_s {P d : Nat → Nat} {t k m : Nat} (L : pl_Be P d t k 6 m) : pl_Be P d t (k + 1) 0 m :=
  ⟨L.1, L.2.1, fun s hs hd r => L.2.2.2 s hs hs hd r, fun s h => absurd h (Nat.not_lt_zero _)⟩
/-! ===== masks of a predicate ===== -/
noncomputable def pl_mk (p : Nat → Prop) : Nat → Nat
  | 0 => 0
  | i + 1 => pl_if (p i) (pl_mk p i ||| 2 ^ i) (pl_mk p i)
theorem pl_mk_y {p : Nat → Prop} {i : Nat} (h : p i) : pl_mk p (i + 1) = pl_mk p i ||| 2 ^ i := pl_if_t h
theorem pl_mk_n {p : Nat → Prop} {i : Nat} (h : ¬ p i) : pl_mk p (i + 1) = pl_mk p i := pl_if_f h
theorem pl_mk_lt (p : Nat → Prop) : ∀ i, i ≤ 6 → pl_mk p i < 64 := by
  intro i
  induction i with
  | zero => intro _; exact (by decide : 0 < 64)
  | succ i ih =>
    intro hi
    by_cases h : p i
    · rw [pl_mk_y h]; exact pl_m64 (ih (by omega)) (by omega)
    · rw [pl_mk_n h]; exact ih (by omega)
theorem pl_mk_tb (p : Nat → Prop) : ∀ i j, (pl_mk p i).testBit j = true ↔ j < i ∧ p j := by
  intro i
  induction i with
  | zero =>
    intro j
    show (0 : Nat).testBit j = true ↔ _
    rw [Nat.zero_testBit]
    constructor
    · intro h; exact absurd h (by decide)
    · intro h; omega
  | succ i ih =>
    intro j
    by_cases h : p i
    · rw [pl_mk_y h, pl_tor, ih j]
      constructor
      · intro c
        rcases c with c | c
        · exact ⟨by omega, c.2⟩
        · subst c; exact ⟨by omega, h⟩
      · intro c
        by_cases z : j = i
        · exact Or.inr z
        · exact Or.inl ⟨by omega, c.2⟩
    · rw [pl_mk_n h, ih j]
      constructor
      · intro c; exact ⟨by omega, c.2⟩
      · intro c
        have z : j ≠ i := by intro z; rw [z] at c; exact h c.2
        exact ⟨by omega, c.2⟩
theorem pl_Be_6 {P d : Nat → Nat} {t m : Nat} (hd : ∀ s, s < 6 → d s < 6) (L : pl_Be P d t 6 0 m) : m = pl_mk (fun s => pl_Rc P s t) 6 := by
  refine pl_meq L.1 (pl_mk_lt _ 6 (by omega)) (fun j hj => ?_)
  rw [pl_mk_tb]
  exact ⟨fun b => ⟨hj, L.2.1 j hj b⟩, fun b => L.2.2.1 j hj (hd j hj) b.2⟩
/-! ===== the best of those that wait for l; the runner; the count ===== -/
def pl_bc (U S : Nat → Nat) (b i : Nat) : Prop := b = 0 ∨ U (b - 1) < U i ∨ (U i = U (b - 1) ∧ S i < S (b - 1))
noncomputable def pl_bf (U S W : Nat → Nat) (l : Nat) : Nat → Nat
  | 0 => 0
  | i + 1 => pl_if (W i = l + 1 ∧ pl_bc U S (pl_bf U S W l i) i) (i + 1) (pl_bf U S W l i)
theorem pl_bf_y {U S W : Nat → Nat} {l i : Nat} (h : W i = l + 1) (c : pl_bc U S (pl_bf U S W l i) i) : pl_bf U S W l (i + 1) = i + 1 := pl_if_t ⟨h, c⟩
theorem pl_bf_n {U S W : Nat → Nat} {l i : Nat} (h : ¬ W i = l + 1) : pl_bf U S W l (i + 1) = pl_bf U S W l i := pl_if_f (fun x => h x.1)
theorem pl_bf_m {U S W : Nat → Nat} {l i : Nat} (c : ¬ pl_bc U S (pl_bf U S W l i) i) : pl_bf U S W l (i + 1) = pl_bf U S W l i := pl_if_f (fun x => c x.2)
theorem pl_bf_s (U S W : Nat → Nat) (l : Nat) : ∀ i b, pl_bf U S W l i = b + 1 → b < i ∧ W b = l + 1 := by
  intro i
  induction i with
  | zero => intro b h; exact absurd h (by show ¬ 0 = b + 1; omega)
  | succ i ih =>
    intro b h
    by_cases c : W i = l + 1 ∧ pl_bc U S (pl_bf U S W l i) i
    · rw [pl_bf_y c.1 c.2] at h
      have : b = i := by omega
      subst this
      exact ⟨by omega, c.1⟩
    · rw [show pl_bf U S W l (i + 1) = pl_bf U S W l i from pl_if_f c] at h
      have := ih b h
      exact ⟨by omega, this.2⟩
theorem pl_bf_0 (U S W : Nat → Nat) (l : Nat) : ∀ i, pl_bf U S W l i = 0 → ∀ s, s < i → W s ≠ l + 1 := by
  intro i
  induction i with
  | zero => intro _ s hs; exact absurd hs (Nat.not_lt_zero s)
  | succ i ih =>
    intro h s hs
    by_cases c : W i = l + 1 ∧ pl_bc U S (pl_bf U S W l i) i
    · rw [pl_bf_y c.1 c.2] at h; omega
    · rw [show pl_bf U S W l (i + 1) = pl_bf U S W l i from pl_if_f c] at h
      by_cases z : s = i
      · subst z
        intro w
        exact c ⟨w, Or.inl h⟩
      · exact ih h s (by omega)
noncomputable def pl_rf (U W : Nat → Nat) : Nat → Nat
  | 0 => 0
  | i + 1 => pl_if (W i = 0 ∧ (pl_rf U W i = 0 ∨ U (pl_rf U W i - 1) < U i)) (i + 1) (pl_rf U W i)
theorem pl_rf_y {U W : Nat → Nat} {i : Nat} (h : W i = 0) (c : pl_rf U W i = 0 ∨ U (pl_rf U W i - 1) < U i) : pl_rf U W (i + 1) = i + 1 := pl_if_t ⟨h, c⟩
theorem pl_rf_n {U W : Nat → Nat} {i : Nat} (h : ¬ W i = 0) : pl_rf U W (i + 1) = pl_rf U W i := pl_if_f (fun x => h x.1)
theorem pl_rf_m {U W : Nat → Nat} {i : Nat} (c : ¬ (pl_rf U W i = 0 ∨ U (pl_rf U W i - 1) < U i)) : pl_rf U W (i + 1) = pl_rf U W i := pl_if_f (fun x => c x.2)
theorem pl_rf_lt (U W : Nat → Nat) : ∀ i, pl_rf U W i ≤ i := by
  intro i
  induction i with
  | zero => exact Nat.le_refl 0
  | succ i ih =>
    by_cases c : W i = 0 ∧ (pl_rf U W i = 0 ∨ U (pl_rf U W i - 1) < U i)
    · rw [pl_rf_y c.1 c.2]; exact Nat.le_refl _
    · rw [show pl_rf U W (i + 1) = pl_rf U W i from pl_if_f c]; omega
noncomputable def pl_wc (W : Nat → Nat) (l : Nat) : Nat → Nat
  | 0 => 0
  | i + 1 => pl_if (W i = l + 1) (pl_wc W l i + 1) (pl_wc W l i)
theorem pl_wc_y {W : Nat → Nat} {l i : Nat} (h : W i = l + 1) : pl_wc W l (i + 1) = pl_wc W l i + 1 := pl_if_t h
theorem pl_wc_n {W : Nat → Nat} {l i : Nat} (h : ¬ W i = l + 1) : pl_wc W l (i + 1) = pl_wc W l i := pl_if_f h
end
section
/-! ===== the component's own methods ===== -/
/-- bounds, and: a lock that is waited for is held -/
def pl_G (B W H : Nat → Nat) : Prop := (∀ t, t < 6 → B t ≤ 9) ∧ (∀ t, t < 6 → W t ≤ 5) ∧ (∀ l, l < 5 → H l ≤ 6) ∧ (∀ t, t < 6 → ∀ l, W t = l + 1 → H l ≠ 0)
theorem pl_Gc {B W H : Nat → Nat} {i : Nat} (g : pl_G B W H) (hi : i < 6) : (W i = 0 ∧ pl_P W H i = 0) ∨ ∃ l h, W i = l + 1 ∧ l < 5 ∧ H l = h + 1 ∧ h < 6 ∧ pl_P W H i = h + 1 := by
  cases hc : W i with
  | zero => exact Or.inl ⟨rfl, pl_P0 hc⟩
  | succ l =>
    have hl : l < 5 := by have := g.2.1 i hi; omega
    have h0 := g.2.2.2 i hi l hc
    have h6 := g.2.2.1 l hl
    refine Or.inr ⟨l, H l - 1, rfl, hl, by omega, by omega, ?_⟩
    rw [pl_Ps hc]; omega
theorem pl_xc {B W H : Nat → Nat} {xw xh : Nat → Int32} {x : Int32} {i : Nat} (g : pl_G B W H) (hw : ∀ t, t < 6 → xw t = pl_z (W t)) (hh : ∀ l, l < 5 → xh l = pl_z (H l)) (hi : i < 6) (e : x = nI i) : (W i = 0 ∧ xw x.toNatClampNeg = pl_z 0 ∧ pl_P W H i = 0) ∨ ∃ l h, W i = l + 1 ∧ l < 5 ∧ H l = h + 1 ∧ h < 6 ∧ xw x.toNatClampNeg = nI l ∧ xh (xw x.toNatClampNeg).toNatClampNeg = nI h ∧ pl_P W H i = h + 1 := by
  have ew : xw x.toNatClampNeg = pl_z (W i) := pl_rd hw hi (by omega) e
  rcases pl_Gc g hi with ⟨w, p⟩ | ⟨l, h, w, hl, eh, h6, p⟩
  · exact Or.inl ⟨w, by rw [ew, w], p⟩
  · have ew2 : xw x.toNatClampNeg = nI l := by rw [ew, w]; rfl
    have e2 : xh (xw x.toNatClampNeg).toNatClampNeg = pl_z (H l) := pl_rd hh hl (by omega) ew2
    exact Or.inr ⟨l, h, w, hl, eh, h6, ew2, by rw [e2, eh]; rfl, p⟩
section
variable {fs : Int32} {xb xu xw xs xh : Nat → Int32} {B U W H S d : Nat → Nat}
theorem pl_xT {post : Int32 → Prop} {t : Nat} (ht : t < 6) (h : post 1) : wpX_isThread post (nI t) := br_f (nI_pos (by omega)) (br_f (pl_n6 ht) h)
theorem pl_xTn {post : Int32 → Prop} {v : Int32} (hv : v < 0 ∨ nI 6 ≤ v) (h : post 0) : wpX_isThread post v := by
  by_cases c : v < 0
  · exact br_t c h
  · exact br_f c (br_t (hv.resolve_left c) h)
theorem pl_xL {post : Int32 → Prop} {l : Nat} (hl : l < 5) (h : post 1) : wpX_isLock post (nI l) := br_f (nI_pos (by omega)) (br_f (pl_n5 hl) h)
theorem pl_xLn {post : Int32 → Prop} {v : Int32} (hv : v < 0 ∨ nI 5 ≤ v) (h : post 0) : wpX_isLock post v := by
  by_cases c : v < 0
  · exact br_t c h
  · exact br_f c (br_t (hv.resolve_left c) h)
theorem pl_xlent {post : Int32 → Prop} {t : Nat} (g : pl_G B W H) (hb : ∀ t, t < 6 → xb t = nI (B t)) (hu : ∀ t, t < 6 → xu t = nI (U t)) (hw : ∀ t, t < 6 → xw t = pl_z (W t)) (hh : ∀ l, l < 5 → xh l = pl_z (H l)) (hU : ∀ t, t < 6 → U t ≤ 9) (ht : t < 6) (K : ∀ m, pl_Lp B U (pl_P W H) t 6 m → post (nI m)) : wpX_lent post (fs, xb, xu, xw, xs, xh) (nI t) := by
  have et : xb (nI t).toNatClampNeg = nI (B t) := pl_rd hb ht (by omega) rfl
  refine And.intro (vp_in_nI ht (by decide)) (nm_r et ?_)
  refine loop_0 (fun n i (m : Nat) => wX_lent_9 post (nI t) fs xb xu xw xs xh n (nI m) (nI i)) (fun i m => pl_Lp B U (pl_P W H) t i m) 6 (B t) pl_Lp_0 ?_ ?_
  · intro n m L
    exact br_t pl_e6 (K m L)
  · intro n i m hi L J
    have hm : m ≤ 9 := pl_Lp_9 L ht g.1 hU
    have vi : vp_in (nI i) 6 := vp_in_nI hi (by decide)
    have off : pl_Lp B U (pl_P W H) t (i + 1) m → wX_lent_43 post (wX_lent_9 post (nI t) fs xb xu xw xs xh n) (nI t) (nI m) (nI i) fs xb xu xw xs xh := fun h => br_t rfl (nm_r (nI_1 i) (J m h))
    rcases pl_xc g hw hh hi (rfl : nI i = nI i) with ⟨w, ew, p⟩ | ⟨l, h, w, hl, eh, h6, ew, e2, p⟩
    · exact br_f (pl_n6 hi) ⟨vi, br_t (pl_neg ew) (off (pl_Lp_n L (Or.inl (by rw [p]; omega))))⟩
    · by_cases q : h = t
      · have qe : xh (xw (nI i).toNatClampNeg).toNatClampNeg = nI t := by rw [e2, q]
        have eu : xu (nI i).toNatClampNeg = nI (U i) := pl_rd hu hi (by omega) rfl
        have hi9 := hU i hi
        refine br_f (pl_n6 hi) ⟨vi, br_f (pl_nn ew (by omega)) ⟨vi, pl_in ew hl (by decide), br_t qe ?_⟩⟩
        by_cases c : U i ≤ m
        · have ce : xu (nI i).toNatClampNeg ≤ nI m := by rw [eu]; exact nI_le c (by omega)
          exact br_f pl_10 ⟨vi, br_t ce (nm_r (nI_1 i) (J m (pl_Lp_n L (Or.inr c))))⟩
        · have ce : ¬ xu (nI i).toNatClampNeg ≤ nI m := by rw [eu]; exact nI_ge (by omega) (by omega)
          exact br_f pl_10 ⟨vi, br_f ce ⟨vi, nm_r eu (nm_r (nI_1 i) (J (U i) (pl_Lp_y L hi (by rw [p, q]) (by omega))))⟩⟩
      · have qe : ¬ xh (xw (nI i).toNatClampNeg).toNatClampNeg = nI t := by rw [e2, nI_eq (by omega) (by omega)]; exact q
        exact br_f (pl_n6 hi) ⟨vi, br_f (pl_nn ew (by omega)) ⟨vi, pl_in ew hl (by decide), br_f qe (off (pl_Lp_n L (Or.inl (by rw [p]; omega))))⟩⟩
theorem pl_xrefE {post : SX → Prop} {n : Nat} {x3 : Int32} (h : post (fs, xb, xu, xw, xs, xh)) : wX_refresh_4 post fs (n + 1) (-1) x3 xb xu xw xs xh := by
  by_cases c : (6 : Int32) ≤ x3
  · exact br_t c h
  · exact br_f c (br_t (by decide) h)
theorem pl_xref4 {post : SX → Prop} {e : Nat} (g : pl_G B W H) (hb : ∀ t, t < 6 → xb t = nI (B t)) (hw : ∀ t, t < 6 → xw t = pl_z (W t)) (hh : ∀ l, l < 5 → xh l = pl_z (H l)) (R : pl_Rk (pl_P W H) d) (K : ∀ (U' : Nat → Nat) (xu' : Nat → Int32), (∀ t, t < 6 → xu' t = nI (U' t)) → (∀ t, t < 6 → U' t ≤ 9) → (∀ x, x < 6 → x ≠ e → pl_Fx B U' (pl_P W H) x) → post (fs, xb, xu', xw, xs, xh)) : ∀ (n s i : Nat) (U : Nat → Nat) (xu : Nat → Int32), s < 6 → d s + i < 6 → d s + 1 < n → (∀ t, t < 6 → xu t = nI (U t)) → (∀ t, t < 6 → U t ≤ 9) → (∀ x, x < 6 → x ≠ s → x ≠ e → pl_Fx B U (pl_P W H) x) → wX_refresh_4 post fs n (nI s) (nI i) xb xu xw xs xh := by
  intro n
  induction n with
  | zero => intro s i U xu _ _ hn; omega
  | succ n ih =>
    intro s i U xu hs hd hn hu hU F
    obtain ⟨n', rfl⟩ : ∃ n', n = n' + 1 := ⟨n - 1, by omega⟩
    refine br_f (pl_n6 (by omega)) (br_f (nI_pos (by omega)) ?_)
    refine pl_xlent g hb hu hw hh hU hs (fun m L => ?_)
    have hm : m ≤ 9 := pl_Lp_9 L hs g.1 hU
    have vs : vp_in (nI s) 6 := vp_in_nI hs (by decide)
    have eu : xu (nI s).toNatClampNeg = nI (U s) := pl_rd hu hs (by omega) rfl
    have hs9 := hU s hs
    have n1 : pl_P W H s ≠ s + 1 := by
      intro z
      have := (R s hs s z).2
      omega
    have f1 : ∀ xu', xu' = upd xu (nI s).toNatClampNeg (vp_nar .byte (nI m).toInt8.toInt32) → ∀ t, t < 6 → xu' t = nI (pl_u U s m t) := by
      intro xu' ex
      rw [nI_clamp (by omega), pl_b m (by omega)] at ex
      exact pl_st nI hu ex rfl
    have f2 : ∀ t, t < 6 → pl_u U s m t ≤ 9 := by
      intro t ht
      by_cases z : t = s
      · rw [z, pl_uS]; exact hm
      · rw [pl_uN z]; exact hU t ht
    by_cases q : m = U s
    · have qe : nI m = xu (nI s).toNatClampNeg := by rw [eu, q]
      refine ⟨vs, br_t qe (And.intro vs (fun xu' ex => br_f pl_10 (nm_e (pl_xrefE (K _ xu' (f1 xu' ex) f2 ?_)))))⟩
      intro x hx xe
      by_cases z : x = s
      · rw [z]; exact pl_ref_s n1 L
      · rw [pl_uid q]; exact F x hx z xe
    · have qe : ¬ nI m = xu (nI s).toNatClampNeg := by rw [eu, nI_eq (by omega) (by omega)]; exact q
      rcases pl_xc g hw hh hs (rfl : nI s = nI s) with ⟨w, ew, p⟩ | ⟨l, h, w, hl, eh, h6, ew, e2, p⟩
      · refine ⟨vs, br_f qe (And.intro vs (fun xu' ex => br_t rfl ⟨vs, br_f (pl_ng ew) (nm_e (pl_xrefE (K _ xu' (f1 xu' ex) f2 ?_)))⟩))⟩
        intro x hx xe
        by_cases z : x = s
        · rw [z]; exact pl_ref_s n1 L
        · exact pl_ref_o z (by rw [p]; omega) (F x hx z xe)
      · have r := R s hs h p
        refine ⟨vs, br_f qe (And.intro vs (fun xu' ex => br_t rfl ⟨vs, br_t (pl_ge ew (by omega)) ⟨vs, pl_in ew hl (by decide), nm_r e2 (nm_r (nI_1 i) (ih h (i + 1) (pl_u U s m) xu' h6 (by omega) (by omega) (f1 xu' ex) f2 ?_))⟩⟩))⟩
        intro x hx xh' xe
        by_cases z : x = s
        · rw [z]; exact pl_ref_s n1 L
        · exact pl_ref_o z (by rw [p]; omega) (F x hx z xe)
theorem pl_xref {post : SX → Prop} {e s : Nat} (g : pl_G B W H) (hb : ∀ t, t < 6 → xb t = nI (B t)) (hu : ∀ t, t < 6 → xu t = nI (U t)) (hw : ∀ t, t < 6 → xw t = pl_z (W t)) (hh : ∀ l, l < 5 → xh l = pl_z (H l)) (hU : ∀ t, t < 6 → U t ≤ 9) (R : ∃ d, pl_Rk (pl_P W H) d) (hs : s < 6) (F : ∀ x, x < 6 → x ≠ s → x ≠ e → pl_Fx B U (pl_P W H) x) (K : ∀ (U' : Nat → Nat) (xu' : Nat → Int32), (∀ t, t < 6 → xu' t = nI (U' t)) → (∀ t, t < 6 → U' t ≤ 9) → (∀ x, x < 6 → x ≠ e → pl_Fx B U' (pl_P W H) x) → post (fs, xb, xu', xw, xs, xh)) : wpX_refresh post (fs, xb, xu, xw, xs, xh) (nI s) := by
  obtain ⟨d0, R0⟩ := R
  obtain ⟨d, R1, hd⟩ := pl_rk6 R0
  have := hd s hs
  exact ⟨d s + 2, pl_xref4 g hb hw hh R1 K (d s + 2) s 0 U xu hs (by omega) (by omega) hu hU F⟩
theorem pl_xdep5 {post : Int32 → Prop} {t : Nat} (g : pl_G B W H) (hw : ∀ t, t < 6 → xw t = pl_z (W t)) (hh : ∀ l, l < 5 → xh l = pl_z (H l)) (R : pl_Rk (pl_P W H) d) (ht : t < 6) : ∀ (n s i : Nat), s < 6 → d s + i < 6 → d s < n → (pl_Rc (pl_P W H) s t → post 1) → (¬ pl_Rc (pl_P W H) s t → post 0) → wX_dependsOn_5 post (nI t) fs xb xu xw xs xh n (nI s) (nI i) := by
  intro n
  induction n with
  | zero => intro s i _ _ hn; omega
  | succ n ih =>
    intro s i hs hd hn K1 K0
    have vs : vp_in (nI s) 6 := vp_in_nI hs (by decide)
    rcases pl_xc g hw hh hs (rfl : nI s = nI s) with ⟨w, ew, p⟩ | ⟨l, h, w, hl, eh, h6, ew, e2, p⟩
    · exact br_f (pl_n6 (by omega)) ⟨vs, br_t (pl_neg ew) (K0 (pl_Rc_0 p))⟩
    · have r := R s hs h p
      by_cases q : h = t
      · exact br_f (pl_n6 (by omega)) ⟨vs, br_f (pl_nn ew (by omega)) ⟨vs, pl_in ew hl (by decide), nm_r e2 (br_t (congrArg nI q) (K1 ((pl_Rc_s p).mpr (Or.inl q))))⟩⟩
      · have qe : ¬ nI h = nI t := by rw [nI_eq (by omega) (by omega)]; exact q
        refine br_f (pl_n6 (by omega)) ⟨vs, br_f (pl_nn ew (by omega)) ⟨vs, pl_in ew hl (by decide), nm_r e2 (br_f qe (nm_r (nI_1 i) (ih h (i + 1) h6 (by omega) (by omega) ?_ ?_)))⟩⟩
        · exact fun c => K1 ((pl_Rc_s p).mpr (Or.inr c))
        · exact fun c => K0 (fun z => ((pl_Rc_s p).mp z).elim q c)
theorem pl_xdep {post : Int32 → Prop} {s t : Nat} (g : pl_G B W H) (hw : ∀ t, t < 6 → xw t = pl_z (W t)) (hh : ∀ l, l < 5 → xh l = pl_z (H l)) (R : ∃ d, pl_Rk (pl_P W H) d) (hs : s < 6) (ht : t < 6) (K1 : pl_Rc (pl_P W H) s t → post 1) (K0 : ¬ pl_Rc (pl_P W H) s t → post 0) : wpX_dependsOn post (fs, xb, xu, xw, xs, xh) (nI s) (nI t) := by
  obtain ⟨d0, R0⟩ := R
  obtain ⟨d, R1, hd⟩ := pl_rk6 R0
  have := hd s hs
  exact ⟨d s + 1, pl_xdep5 g hw hh R1 ht (d s + 1) s 0 hs (by omega) (by omega) K1 K0⟩
end
end
section
/-! ===== the component's loops that only read ===== -/
theorem pl_bcs {U S : Nat → Nat} {c b i : Nat} (h : c = b + 1) : pl_bc U S c i ↔ U b < U i ∨ (U i = U b ∧ S i < S b) := by
  subst h
  unfold pl_bc
  rw [Nat.add_sub_cancel]
  constructor
  · intro h
    rcases h with h | h
    · omega
    · exact h
  · exact fun h => Or.inr h
section
variable {fs : Int32} {xb xu xw xs xh : Nat → Int32} {B U W H S d : Nat → Nat}
theorem pl_xbest {post : Int32 → Prop} {l : Nat} (hl : l < 5) (hu : ∀ t, t < 6 → xu t = nI (U t)) (hw : ∀ t, t < 6 → xw t = pl_z (W t)) (hs : ∀ t, t < 6 → W t ≠ 0 → xs t = nI (S t)) (hU : ∀ t, t < 6 → U t ≤ 9) (hW : ∀ t, t < 6 → W t ≤ 5) (hS : ∀ t, t < 6 → W t ≠ 0 → S t < 2000) (K : post (pl_z (pl_bf U S W l 6))) : wpX_bestWaiting post (fs, xb, xu, xw, xs, xh) (nI l) := by
  refine loop_0 (fun n i (_ : Unit) => wX_bestWaiting_4 post (nI l) fs xb xu xw xs xh n (pl_z (pl_bf U S W l i)) (nI i)) (fun _ _ => True) 6 () trivial ?_ ?_
  · intro n _ _
    exact br_t pl_e6 K
  · intro n i _ hi _ G
    have J : ∀ x, x = pl_z (pl_bf U S W l (i + 1)) → wX_bestWaiting_4 post (nI l) fs xb xu xw xs xh n x (nI (i + 1)) := by
      intro x hx; rw [hx]; exact G () trivial
    have vi : vp_in (nI i) 6 := vp_in_nI hi (by decide)
    have ew0 : xw (nI i).toNatClampNeg = pl_z (W i) := pl_rd hw hi (by omega) rfl
    have eu : xu (nI i).toNatClampNeg = nI (U i) := pl_rd hu hi (by omega) rfl
    have hi9 := hU i hi
    have hW5 := hW i hi
    by_cases w : W i = l + 1
    · have ew : xw (nI i).toNatClampNeg = nI l := by rw [ew0, w]; rfl
      have es : xs (nI i).toNatClampNeg = nI (S i) := by rw [nI_clamp (by omega)]; exact hs i hi (by omega)
      have si := hS i hi (by omega)
      refine br_f (pl_n6 hi) ⟨vi, br_t ew ?_⟩
      cases hb : pl_bf U S W l i with
      | zero =>
        have f := pl_bf_y (U := U) (S := S) w (Or.inl hb)
        exact br_t (pl_neg rfl) (br_t (pl_neg rfl) (br_f pl_10 (nm_r (nI_1 i) (J _ (by rw [f]; rfl)))))
      | succ b =>
        obtain ⟨hb1, hb2⟩ := pl_bf_s U S W l i b hb
        have h6 : b < 6 := by omega
        have vb : vp_in (pl_z (b + 1)) 6 := vp_in_nI h6 (by decide)
        have eb : xu (pl_z (b + 1)).toNatClampNeg = nI (U b) := pl_rd hu h6 (by omega) rfl
        have tb : xs (pl_z (b + 1)).toNatClampNeg = nI (S b) := by
          show xs (nI b).toNatClampNeg = _
          rw [nI_clamp (by omega)]; exact hs b h6 (by omega)
        have sb := hS b h6 (by omega)
        have b9 := hU b h6
        have nb : ¬ pl_z (b + 1) < 0 := nI_pos (by omega)
        have bc := pl_bcs (U := U) (S := S) (i := i) hb
        have f1 : pl_bc U S (pl_bf U S W l i) i → nI i = pl_z (pl_bf U S W l (i + 1)) := fun c => by rw [pl_bf_y w c]; rfl
        have f0 : ¬ pl_bc U S (pl_bf U S W l i) i → pl_z (b + 1) = pl_z (pl_bf U S W l (i + 1)) := fun c => by rw [pl_bf_m c, hb]
        rw [bc] at f1 f0
        by_cases c1 : U i ≤ U b
        · have c1e : xu (nI i).toNatClampNeg ≤ xu (pl_z (b + 1)).toNatClampNeg := by rw [eu, eb]; exact nI_le c1 (by omega)
          refine br_f nb ⟨vi, vb, br_t c1e ?_⟩
          by_cases c2 : U i = U b
          · have c2e : xu (nI i).toNatClampNeg = xu (pl_z (b + 1)).toNatClampNeg := by rw [eu, eb, c2]
            by_cases c3 : S b ≤ S i
            · have c3e : xs (pl_z (b + 1)).toNatClampNeg ≤ xs (nI i).toNatClampNeg := by rw [es, tb]; exact nI_le c3 (by omega)
              exact br_f nb ⟨vi, vb, br_t c2e ⟨vi, vb, br_t c3e (br_t rfl (br_t rfl (nm_r (nI_1 i) (J _ (f0 (by omega))))))⟩⟩
            · have c3e : ¬ xs (pl_z (b + 1)).toNatClampNeg ≤ xs (nI i).toNatClampNeg := by rw [es, tb]; exact nI_ge (by omega) (by omega)
              exact br_f nb ⟨vi, vb, br_t c2e ⟨vi, vb, br_f c3e (br_t rfl (br_f pl_10 (nm_r (nI_1 i) (J _ (f1 (by omega))))))⟩⟩
          · have c2e : ¬ xu (nI i).toNatClampNeg = xu (pl_z (b + 1)).toNatClampNeg := by rw [eu, eb, nI_eq (by omega) (by omega)]; exact c2
            exact br_f nb ⟨vi, vb, br_f c2e (br_t rfl (br_t rfl (nm_r (nI_1 i) (J _ (f0 (by omega))))))⟩
        · have c1e : ¬ xu (nI i).toNatClampNeg ≤ xu (pl_z (b + 1)).toNatClampNeg := by rw [eu, eb]; exact nI_ge (by omega) (by omega)
          have c2e : ¬ xu (nI i).toNatClampNeg = xu (pl_z (b + 1)).toNatClampNeg := by rw [eu, eb, nI_eq (by omega) (by omega)]; omega
          exact br_f nb ⟨vi, vb, br_f c1e (br_f nb ⟨vi, vb, br_f c2e (br_f pl_10 (nm_r (nI_1 i) (J _ (f1 (by omega)))))⟩)⟩
    · have ew : ¬ xw (nI i).toNatClampNeg = nI l := by rw [ew0, pl_zeq (by omega) (by omega)]; exact w
      exact br_f (pl_n6 hi) ⟨vi, br_f ew (nm_r (nI_1 i) (J _ (by rw [pl_bf_n w])))⟩
theorem pl_xwait {post : Int32 → Prop} {l : Nat} (hl : l < 5) (hw : ∀ t, t < 6 → xw t = pl_z (W t)) (hW : ∀ t, t < 6 → W t ≤ 5) (K : post (nI (pl_wc W l 6))) : wpX_waiting post (fs, xb, xu, xw, xs, xh) (nI l) := by
  refine loop_0 (fun n i (_ : Unit) => wX_waiting_4 post (nI l) fs xb xu xw xs xh n (nI (pl_wc W l i)) (nI i)) (fun _ _ => True) 6 () trivial ?_ ?_
  · intro n _ _
    exact br_t pl_e6 K
  · intro n i _ hi _ G
    have J : ∀ x, x = nI (pl_wc W l (i + 1)) → wX_waiting_4 post (nI l) fs xb xu xw xs xh n x (nI (i + 1)) := by
      intro x hx; rw [hx]; exact G () trivial
    have vi : vp_in (nI i) 6 := vp_in_nI hi (by decide)
    have ew0 : xw (nI i).toNatClampNeg = pl_z (W i) := pl_rd hw hi (by omega) rfl
    have hW5 := hW i hi
    refine br_f (pl_n6 hi) (pl_xL hl (br_f pl_10 ⟨vi, ?_⟩))
    by_cases w : W i = l + 1
    · have ew : xw (nI i).toNatClampNeg = nI l := by rw [ew0, w]; rfl
      exact br_t ew (nm_e (nm_r (nI_1 i) (J _ (by rw [pl_wc_y w]; exact nI_1 _))))
    · have ew : ¬ xw (nI i).toNatClampNeg = nI l := by rw [ew0, pl_zeq (by omega) (by omega)]; exact w
      exact br_f ew (nm_e (nm_r (nI_1 i) (J _ (by rw [pl_wc_n w]; exact Int32.add_zero _))))
theorem pl_xwaitn {post : Int32 → Prop} {v : Int32} (hv : v < 0 ∨ nI 5 ≤ v) (K : post 0) : wpX_waiting post (fs, xb, xu, xw, xs, xh) v :=
  ⟨1, br_f (pl_n6 (i := 0) (by omega)) (pl_xLn hv (br_t rfl K))⟩
theorem pl_xheld {post : Int32 → Prop} {t : Nat} (ht : t < 6) (hh : ∀ l, l < 5 → xh l = pl_z (H l)) (hH : ∀ l, l < 5 → H l ≤ 6) (K : post (nI (pl_mk (fun l => H l = t + 1) 5))) : wpX_held post (fs, xb, xu, xw, xs, xh) (nI t) := by
  refine loop_0 (fun n i (_ : Unit) => wX_held_4 post (nI t) fs xb xu xw xs xh n (nI (pl_mk (fun l => H l = t + 1) i)) (nI i)) (fun _ _ => True) 5 () trivial ?_ ?_
  · intro n _ _
    exact br_t pl_e5 K
  · intro n i _ hi _ G
    have J : ∀ x, x = nI (pl_mk (fun l => H l = t + 1) (i + 1)) → wX_held_4 post (nI t) fs xb xu xw xs xh n x (nI (i + 1)) := by
      intro x hx; rw [hx]; exact G () trivial
    have vi : vp_in (nI i) 5 := vp_in_nI hi (by decide)
    have eh : xh (nI i).toNatClampNeg = pl_z (H i) := pl_rd hh hi (by omega) rfl
    have h6 := hH i hi
    refine br_f (pl_n5 hi) (pl_xT ht (br_f pl_10 ⟨vi, ?_⟩))
    by_cases w : H i = t + 1
    · have ew : xh (nI i).toNatClampNeg = nI t := by rw [eh, w]; rfl
      exact br_t ew (nm_e (nm_r (nI_1 i) (J _ (by rw [pl_mk_y (p := fun l => H l = t + 1) (i := i) w]; exact pl_or _ (pl_mk_lt _ i (by omega)) i (by omega)))))
    · have ew : ¬ xh (nI i).toNatClampNeg = nI t := by rw [eh, pl_zeq (by omega) (by omega)]; exact w
      exact br_f ew (nm_e (nm_r (nI_1 i) (J _ (by rw [pl_mk_n (p := fun l => H l = t + 1) (i := i) w]; exact pl_or0 _))))
theorem pl_xheldn {post : Int32 → Prop} {v : Int32} (hv : v < 0 ∨ nI 6 ≤ v) (K : post 0) : wpX_held post (fs, xb, xu, xw, xs, xh) v :=
  ⟨1, br_f (pl_n5 (i := 0) (by omega)) (pl_xTn hv (br_t rfl K))⟩
theorem pl_xrun {post : Int32 → Prop} (hu : ∀ t, t < 6 → xu t = nI (U t)) (hw : ∀ t, t < 6 → xw t = pl_z (W t)) (hU : ∀ t, t < 6 → U t ≤ 9) (hW : ∀ t, t < 6 → W t ≤ 5) (K : post (pl_z (pl_rf U W 6))) : wpX_running post (fs, xb, xu, xw, xs, xh) := by
  refine loop_0 (fun n i (_ : Unit) => wX_running_4 post fs xb xu xw xs xh n (pl_z (pl_rf U W i)) (nI i)) (fun _ _ => True) 6 () trivial ?_ ?_
  · intro n _ _
    exact br_t pl_e6 K
  · intro n i _ hi _ G
    have J : ∀ x, x = pl_z (pl_rf U W (i + 1)) → wX_running_4 post fs xb xu xw xs xh n x (nI (i + 1)) := by
      intro x hx; rw [hx]; exact G () trivial
    have vi : vp_in (nI i) 6 := vp_in_nI hi (by decide)
    have ew0 : xw (nI i).toNatClampNeg = pl_z (W i) := pl_rd hw hi (by omega) rfl
    have eu : xu (nI i).toNatClampNeg = nI (U i) := pl_rd hu hi (by omega) rfl
    have hi9 := hU i hi
    have hW5 := hW i hi
    refine br_f (pl_n6 hi) ⟨vi, ?_⟩
    cases w : W i with
    | succ l =>
      rw [w] at ew0
      exact br_t (pl_ge ew0 (by omega)) (nm_r (nI_1 i) (J _ (by rw [pl_rf_n (by omega)])))
    | zero =>
      rw [w] at ew0
      refine br_f (pl_ng ew0) ?_
      cases hb : pl_rf U W i with
      | zero => exact br_t (pl_neg rfl) (nm_r (nI_1 i) (J _ (by rw [pl_rf_y w (Or.inl hb)]; rfl)))
      | succ b =>
        have hb1 := pl_rf_lt U W i
        have h6 : b < 6 := by omega
        have vb : vp_in (pl_z (b + 1)) 6 := vp_in_nI h6 (by decide)
        have eb : xu (pl_z (b + 1)).toNatClampNeg = nI (U b) := pl_rd hu h6 (by omega) rfl
        have b9 := hU b h6
        have nb : ¬ pl_z (b + 1) < 0 := nI_pos (by omega)
        by_cases c : U i ≤ U b
        · have ce : xu (nI i).toNatClampNeg ≤ xu (pl_z (b + 1)).toNatClampNeg := by rw [eu, eb]; exact nI_le c (by omega)
          have f : pl_rf U W (i + 1) = b + 1 := by
            rw [pl_rf_m, hb]
            rw [hb, Nat.add_sub_cancel]; omega
          exact br_f nb ⟨vi, vb, br_t ce (nm_r (nI_1 i) (J _ (by rw [f])))⟩
        · have ce : ¬ xu (nI i).toNatClampNeg ≤ xu (pl_z (b + 1)).toNatClampNeg := by rw [eu, eb]; exact nI_ge (by omega) (by omega)
          have f : pl_rf U W (i + 1) = i + 1 := by
            apply pl_rf_y w
            rw [hb, Nat.add_sub_cancel]; omega
          exact br_f nb ⟨vi, vb, br_f ce (nm_r (nI_1 i) (J _ (by rw [f]; rfl)))⟩
theorem pl_xwon {post : Int32 → Prop} {t : Nat} (g : pl_G B W H) (hw : ∀ t, t < 6 → xw t = pl_z (W t)) (hh : ∀ l, l < 5 → xh l = pl_z (H l)) (R : ∃ d, pl_Rk (pl_P W H) d) (ht : t < 6) (K : post (nI (pl_mk (fun s => pl_Rc (pl_P W H) s t) 6))) : wpX_waitingOn post (fs, xb, xu, xw, xs, xh) (nI t) := by
  refine loop_0 (fun n i (_ : Unit) => wX_waitingOn_4 post (nI t) fs xb xu xw xs xh n (nI (pl_mk (fun s => pl_Rc (pl_P W H) s t) i)) (nI i)) (fun _ _ => True) 6 () trivial ?_ ?_
  · intro n _ _
    exact br_t pl_e6 K
  · intro n i _ hi _ G
    have J : ∀ x, x = nI (pl_mk (fun s => pl_Rc (pl_P W H) s t) (i + 1)) → wX_waitingOn_4 post (nI t) fs xb xu xw xs xh n x (nI (i + 1)) := by
      intro x hx; rw [hx]; exact G () trivial
    refine br_f (pl_n6 hi) (pl_xT ht (br_f pl_10 (pl_xdep g hw hh R hi ht (fun c => ?_) (fun c => ?_))))
    · exact br_f pl_10 (nm_e (nm_r (nI_1 i) (J _ (by rw [pl_mk_y (p := fun s => pl_Rc (pl_P W H) s t) c]; exact pl_or _ (pl_mk_lt _ i (by omega)) i hi))))
    · exact br_t rfl (nm_e (nm_r (nI_1 i) (J _ (by rw [pl_mk_n (p := fun s => pl_Rc (pl_P W H) s t) c]; exact pl_or0 _))))
theorem pl_xwonn {post : Int32 → Prop} {v : Int32} (hv : v < 0 ∨ nI 6 ≤ v) (K : post 0) : wpX_waitingOn post (fs, xb, xu, xw, xs, xh) v :=
  ⟨1, br_f (pl_n6 (i := 0) (by omega)) (pl_xTn hv (br_t rfl K))⟩
theorem pl_xlift {post : Int32 → Prop} (hb : ∀ t, t < 6 → xb t = nI (B t)) (hu : ∀ t, t < 6 → xu t = nI (U t)) (hB : ∀ t, t < 6 → B t ≤ 9) (hU : ∀ t, t < 6 → U t ≤ 9) (K : post (nI (pl_mk (fun t => B t < U t) 6))) : wpX_lifted post (fs, xb, xu, xw, xs, xh) := by
  refine loop_0 (fun n i (_ : Unit) => wX_lifted_4 post fs xb xu xw xs xh n (nI (pl_mk (fun t => B t < U t) i)) (nI i)) (fun _ _ => True) 6 () trivial ?_ ?_
  · intro n _ _
    exact br_t pl_e6 K
  · intro n i _ hi _ G
    have J : ∀ x, x = nI (pl_mk (fun t => B t < U t) (i + 1)) → wX_lifted_4 post fs xb xu xw xs xh n x (nI (i + 1)) := by
      intro x hx; rw [hx]; exact G () trivial
    have vi : vp_in (nI i) 6 := vp_in_nI hi (by decide)
    have eb : xb (nI i).toNatClampNeg = nI (B i) := pl_rd hb hi (by omega) rfl
    have eu : xu (nI i).toNatClampNeg = nI (U i) := pl_rd hu hi (by omega) rfl
    have hi9 := hU i hi
    have hb9 := hB i hi
    refine br_f (pl_n6 hi) ⟨vi, vi, ?_⟩
    by_cases c : U i ≤ B i
    · have ce : xu (nI i).toNatClampNeg ≤ xb (nI i).toNatClampNeg := by rw [eu, eb]; exact nI_le c (by omega)
      exact br_t ce (nm_e (nm_r (nI_1 i) (J _ (by rw [pl_mk_n (p := fun t => B t < U t) (i := i) (show ¬ B i < U i by omega)]; exact pl_or0 _))))
    · have ce : ¬ xu (nI i).toNatClampNeg ≤ xb (nI i).toNatClampNeg := by rw [eu, eb]; exact nI_ge (by omega) (by omega)
      exact br_f ce (nm_e (nm_r (nI_1 i) (J _ (by rw [pl_mk_y (p := fun t => B t < U t) (i := i) (show B i < U i by omega)]; exact pl_or _ (pl_mk_lt _ i (by omega)) i hi))))
end
end
section
/-! ===== the reference's own methods ===== -/
theorem pl_yc {B W H : Nat → Nat} {yw yh : Nat → Int32} {x : Int32} {i : Nat} (g : pl_G B W H) (hw : ∀ t, t < 6 → yw t = nI (W t)) (hh : ∀ l, l < 5 → yh l = nI (H l)) (hi : i < 6) (e : x = nI i) : (W i = 0 ∧ yw x.toNatClampNeg = nI 0 ∧ pl_P W H i = 0) ∨ ∃ l h, W i = l + 1 ∧ l < 5 ∧ H l = h + 1 ∧ h < 6 ∧ yw x.toNatClampNeg = nI (l + 1) ∧ yw x.toNatClampNeg - 1 = nI l ∧ yh (yw x.toNatClampNeg - 1).toNatClampNeg - 1 = nI h ∧ pl_P W H i = h + 1 := by
  have ew : yw x.toNatClampNeg = nI (W i) := pl_rd hw hi (by omega) e
  rcases pl_Gc g hi with ⟨w, p⟩ | ⟨l, h, w, hl, eh, h6, p⟩
  · exact Or.inl ⟨w, by rw [ew, w], p⟩
  · have e1 : yw x.toNatClampNeg - 1 = nI l := by rw [ew, w]; exact nI_pred l
    have e2 : yh (yw x.toNatClampNeg - 1).toNatClampNeg = nI (H l) := pl_rd hh hl (by omega) e1
    exact Or.inr ⟨l, h, w, hl, eh, h6, by rw [ew, w], e1, by rw [e2, eh]; exact nI_pred h, p⟩
theorem pl_nl5 {t : Nat} (h : t < 6) : ¬ (5 : Int32) < nI t := by
  rw [pl_5]; exact nI_nlt (by omega) (by decide)
theorem pl_nl4 {t : Nat} (h : t < 5) : ¬ (4 : Int32) < nI t := by
  rw [pl_4]; exact nI_nlt (by omega) (by decide)
theorem pl_gt5 {v : Int32} (h : nI 6 ≤ v) : (5 : Int32) < v := by
  rw [Int32.le_iff_toInt_le] at h
  rw [Int32.lt_iff_toInt_lt]
  have a : (nI 6).toInt = 6 := by decide
  have b : (5 : Int32).toInt = 5 := by decide
  omega
theorem pl_gt4 {v : Int32} (h : nI 5 ≤ v) : (4 : Int32) < v := by
  rw [Int32.le_iff_toInt_le] at h
  rw [Int32.lt_iff_toInt_lt]
  have a : (nI 5).toInt = 5 := by decide
  have b : (4 : Int32).toInt = 4 := by decide
  omega
theorem pl_l0 {x : Int32} (e : x = nI 0) : x ≤ 0 := by rw [e]; decide
theorem pl_nl0 {x : Int32} {l : Nat} (e : x = nI (l + 1)) (h : l < 100) : ¬ x ≤ 0 := by rw [e]; exact nI_nle (by omega) (by omega)
section
variable {ft : Int32} {yb yh yw ys yu : Nat → Int32} {B U W H S d : Nat → Nat}
theorem pl_yT {post : Int32 → Prop} {t : Nat} (ht : t < 6) (h : post 1) : wpY_thread post (ft, yb, yh, yw, ys, yu) (nI t) := br_f (nI_pos (by omega)) (br_f (pl_nl5 ht) h)
theorem pl_yTn {post : Int32 → Prop} {v : Int32} (hv : v < 0 ∨ nI 6 ≤ v) (h : post 0) : wpY_thread post (ft, yb, yh, yw, ys, yu) v := by
  by_cases c : v < 0
  · exact br_t c h
  · exact br_f c (br_t (pl_gt5 (hv.resolve_left c)) h)
theorem pl_yL {post : Int32 → Prop} {l : Nat} (hl : l < 5) (h : post 1) : wpY_lock post (ft, yb, yh, yw, ys, yu) (nI l) := br_f (nI_pos (by omega)) (br_f (pl_nl4 hl) h)
theorem pl_yLn {post : Int32 → Prop} {v : Int32} (hv : v < 0 ∨ nI 5 ≤ v) (h : post 0) : wpY_lock post (ft, yb, yh, yw, ys, yu) v := by
  by_cases c : v < 0
  · exact br_t c h
  · exact br_f c (br_t (pl_gt4 (hv.resolve_left c)) h)
/-- the array yu holds the numbers V, and V stands at pass k, thread i -/
def pl_LA (B U P d : Nat → Nat) (k i : Nat) (yu : Nat → Int32) : Prop := ∃ V : Nat → Nat, (∀ t, t < 6 → yu t = nI (V t)) ∧ pl_La B U P d k i V
theorem pl_ylend36 {post : SY → Prop} {J28 : Int32 → (Nat → Int32) → (Nat → Int32) → (Nat → Int32) → (Nat → Int32) → (Nat → Int32) → Prop} {k : Nat} (g : pl_G B W H) (hw : ∀ t, t < 6 → yw t = nI (W t)) (hh : ∀ l, l < 5 → yh l = nI (H l)) (hU : ∀ t, t < 6 → U t ≤ 9) (R : pl_Rk (pl_P W H) d) (F : ∀ x, x < 6 → pl_Fx B U (pl_P W H) x) (L0 : pl_LA B U (pl_P W H) d k 0 yu) (K : ∀ yu', pl_LA B U (pl_P W H) d (k + 1) 0 yu' → J28 (nI (k + 1)) yb yh yw ys yu') : ∃ n, wY_lend_36 post J28 (nI k) ft n 0 yb yh yw ys yu := by
  refine loop_0 (fun n i (s : Nat → Int32) => wY_lend_36 post J28 (nI k) ft n (nI i) yb yh yw ys s) (fun i s => pl_LA B U (pl_P W H) d k i s) 6 yu L0 ?_ ?_
  · intro n s L
    obtain ⟨V, hV, L⟩ := L
    exact br_t pl_e6 (nm_r (nI_1 k) (K s ⟨V, hV, pl_La_s L R F⟩))
  · intro n i s hi L J
    obtain ⟨V, hV, L⟩ := L
    have vi : vp_in (nI i) 6 := vp_in_nI hi (by decide)
    rcases pl_yc g hw hh hi (rfl : nI i = nI i) with ⟨w, ew, p⟩ | ⟨l, h, w, hl, eh, h6, ew, e1, e2, p⟩
    · have z : pl_LA B U (pl_P W H) d k (i + 1) s := ⟨V, hV, pl_La_n L hi (fun h e => by omega)⟩
      exact br_f (pl_n6 hi) ⟨vi, br_t (pl_l0 ew) (br_t (by decide) (nm_r (nI_1 i) (J s z)))⟩
    · have si : s (nI i).toNatClampNeg = nI (V i) := pl_rd hV hi (by omega) rfl
      have sh : s (yh (yw (nI i).toNatClampNeg - 1).toNatClampNeg - 1).toNatClampNeg = nI (V h) := pl_rd hV h6 (by omega) e2
      have bi := L.1 i hi
      have bh := L.1 h h6
      have ui := hU i hi
      have uh := hU h h6
      refine br_f (pl_n6 hi) ⟨vi, br_f (pl_nl0 ew (by omega)) ⟨vi, pl_in e1 hl (by decide), br_f (pl_nn e2 (by omega)) ⟨vi, pl_in e2 h6 (by decide), ?_⟩⟩⟩
      by_cases c : V i ≤ V h
      · have ce : s (nI i).toNatClampNeg ≤ s (yh (yw (nI i).toNatClampNeg - 1).toNatClampNeg - 1).toNatClampNeg := by rw [si, sh]; exact nI_le c (by omega)
        have z : pl_LA B U (pl_P W H) d k (i + 1) s := ⟨V, hV, pl_La_n L hi (fun h' e => by
          have : h' = h := by omega
          rw [this]; exact c)⟩
        exact br_t ce (nm_r (nI_1 i) (J s z))
      · have ce : ¬ s (nI i).toNatClampNeg ≤ s (yh (yw (nI i).toNatClampNeg - 1).toNatClampNeg - 1).toNatClampNeg := by rw [si, sh]; exact nI_ge (by omega) (by omega)
        refine br_f ce ⟨vi, pl_in e2 h6 (by decide), fun s' es => nm_r (nI_1 i) (J s' ?_)⟩
        rw [e2, nI_clamp (by omega)] at es
        exact ⟨pl_u V h (V i), pl_st nI hV es si, pl_La_y L hi h6 p (by omega) ((F h h6).2.1 i hi p)⟩
theorem pl_ylend {post : SY → Prop} (g : pl_G B W H) (hb : ∀ t, t < 6 → yb t = nI (B t)) (hw : ∀ t, t < 6 → yw t = nI (W t)) (hh : ∀ l, l < 5 → yh l = nI (H l)) (hU : ∀ t, t < 6 → U t ≤ 9) (R : ∃ d, pl_Rk (pl_P W H) d) (F : ∀ x, x < 6 → pl_Fx B U (pl_P W H) x) (K : ∀ yu', (∀ t, t < 6 → yu' t = nI (U t)) → post (ft, yb, yh, yw, ys, yu')) : wpY_lend post (ft, yb, yh, yw, ys, yu) := by
  obtain ⟨d0, R0⟩ := R
  obtain ⟨d, R1, hd⟩ := pl_rk6 R0
  refine loop_0 (fun n i (s : Nat → Int32) => wY_lend_2 post ft n (nI i) yb yh yw ys s) (fun i s => ∀ t, t < i → s t = nI (B t)) 6 yu (fun t h => absurd h (Nat.not_lt_zero t)) ?_ ?_
  · intro n s I
    refine br_t pl_e6 ?_
    refine loop_0 (fun n k (s : Nat → Int32) => wY_lend_28 post ft n (nI k) yb yh yw ys s) (fun k s => pl_LA B U (pl_P W H) d k 0 s) 6 s ⟨B, I, pl_La_0 hd F (fun _ _ => rfl)⟩ ?_ ?_
    · intro n s L
      obtain ⟨V, hV, L⟩ := L
      exact br_t pl_e6 (K s (fun t ht => by rw [hV t ht, pl_La_6 L t ht]))
    · intro n k s hk L J
      exact br_f (pl_n6 hk) (pl_ylend36 g hw hh hU R1 F L J)
  · intro n i s hi I J
    have vi : vp_in (nI i) 6 := vp_in_nI hi (by decide)
    have eb : yb (nI i).toNatClampNeg = nI (B i) := pl_rd hb hi (by omega) rfl
    refine br_f (pl_n6 hi) ⟨vi, vi, fun s' es => nm_r (nI_1 i) (J s' ?_)⟩
    rw [nI_clamp (by omega)] at es
    intro t ht
    by_cases z : t = i
    · rw [es, z, pl_us]; exact hb i hi
    · rw [es, pl_un z]; exact I t (by omega)
theorem pl_ybeh13 {post : Int32 → Prop} {J4 : Int32 → Int32 → Prop} {t k m : Nat} (g : pl_G B W H) (hw : ∀ t, t < 6 → yw t = nI (W t)) (hh : ∀ l, l < 5 → yh l = nI (H l)) (R : pl_Rk (pl_P W H) d) (ht : t < 6) (L0 : pl_Be (pl_P W H) d t k 0 m) (K : ∀ m', pl_Be (pl_P W H) d t (k + 1) 0 m' → J4 (nI m') (nI (k + 1))) : ∃ n, wY_behind_13 post J4 (nI t) (nI k) ft yb yh yw ys yu n (nI m) 0 := by
  refine loop_0 (fun n i (m : Nat) => wY_behind_13 post J4 (nI t) (nI k) ft yb yh yw ys yu n (nI m) (nI i)) (fun i m => pl_Be (pl_P W H) d t k i m) 6 m L0 ?_ ?_
  · intro n m L
    exact br_t pl_e6 (nm_r (nI_1 k) (K m (pl_Be_s L)))
  · intro n i m hi L J
    have vi : vp_in (nI i) 6 := vp_in_nI hi (by decide)
    have off : pl_Be (pl_P W H) d t k (i + 1) m → wY_behind_77 post J4 (wY_behind_13 post J4 (nI t) (nI k) ft yb yh yw ys yu n) (nI t) (nI m) (nI k) (nI i) ft yb yh yw ys yu := fun z => br_t rfl (nm_r (nI_1 i) (J m z))
    have on : pl_Be (pl_P W H) d t k (i + 1) (m ||| 2 ^ i) → wY_behind_73 post J4 (wY_behind_13 post J4 (nI t) (nI k) ft yb yh yw ys yu n) (nI t) (nI m) (nI k) (nI i) ft yb yh yw ys yu := fun z => br_f pl_10 (nm_r (pl_or m L.1 i hi) (nm_r (nI_1 i) (J (m ||| 2 ^ i) z)))
    rcases pl_yc g hw hh hi (rfl : nI i = nI i) with ⟨w, ew, p⟩ | ⟨l, h, w, hl, eh, h6, ew, e1, e2, p⟩
    · exact br_f (pl_n6 hi) ⟨vi, br_t (pl_l0 ew) (br_t (by decide) (off (pl_Be_n R L (fun h e => by omega))))⟩
    · refine br_f (pl_n6 hi) ⟨vi, br_f (pl_nl0 ew (by omega)) ⟨vi, pl_in e1 hl (by decide), br_f (pl_nn e2 (by omega)) ?_⟩⟩
      by_cases q : h = t
      · exact br_t (by rw [e2, q]) (on (pl_Be_y R L hi p (Or.inl q)))
      · have qe : ¬ yh (yw (nI i).toNatClampNeg - 1).toNatClampNeg - 1 = nI t := by rw [e2, nI_eq (by omega) (by omega)]; exact q
        refine br_f qe ?_
        by_cases c : m.testBit h = true
        · exact br_t (by rw [e2]; exact (pl_tb m L.1 h h6).mpr c) (on (pl_Be_y R L hi p (Or.inr c)))
        · refine br_f (by rw [e2, pl_tb m L.1 h h6]; exact c) (off (pl_Be_n R L (fun h' e => ?_)))
          have : h' = h := by omega
          rw [this]; exact ⟨q, c⟩
theorem pl_ybeh {post : Int32 → Prop} {t : Nat} (g : pl_G B W H) (hw : ∀ t, t < 6 → yw t = nI (W t)) (hh : ∀ l, l < 5 → yh l = nI (H l)) (R : ∃ d, pl_Rk (pl_P W H) d) (ht : t < 6) (K : post (nI (pl_mk (fun s => pl_Rc (pl_P W H) s t) 6))) : wpY_behind post (ft, yb, yh, yw, ys, yu) (nI t) := by
  obtain ⟨d0, R0⟩ := R
  obtain ⟨d, R1, hd⟩ := pl_rk6 R0
  refine loop_0 (fun n k (m : Nat) => wY_behind_4 post (nI t) ft yb yh yw ys yu n (nI m) (nI k)) (fun k m => pl_Be (pl_P W H) d t k 0 m) 6 0 pl_Be_0 ?_ ?_
  · intro n m L
    exact br_t pl_e6 (by rw [pl_Be_6 hd L]; exact K)
  · intro n k m hk L J
    exact br_f (pl_n6 hk) (pl_ybeh13 g hw hh R1 ht L J)
end
end
section
/-! ===== the reference's loops that only read ===== -/
section
variable {ft : Int32} {yb yh yw ys yu : Nat → Int32} {B U W H S d : Nat → Nat}
theorem pl_ynext8 {post : Int32 → SY → Prop} {l : Nat} (hl : l < 5) (hu : ∀ t, t < 6 → yu t = nI (U t)) (hw : ∀ t, t < 6 → yw t = nI (W t)) (hs : ∀ t, t < 6 → W t ≠ 0 → ys t = nI (S t + 1)) (hU : ∀ t, t < 6 → U t ≤ 9) (hW : ∀ t, t < 6 → W t ≤ 5) (hS : ∀ t, t < 6 → W t ≠ 0 → S t < 2000) (K : post (pl_z (pl_bf U S W l 6)) (ft, yb, yh, yw, ys, yu)) : ∃ n, wY_nextFor_8 post (nI l) ft yb yh yw ys yu n (-1) 0 := by
  refine loop_0 (fun n i (_ : Unit) => wY_nextFor_8 post (nI l) ft yb yh yw ys yu n (pl_z (pl_bf U S W l i)) (nI i)) (fun _ _ => True) 6 () trivial ?_ ?_
  · intro n _ _
    exact br_t pl_e6 K
  · intro n i _ hi _ G
    have J : ∀ x, x = pl_z (pl_bf U S W l (i + 1)) → wY_nextFor_8 post (nI l) ft yb yh yw ys yu n x (nI (i + 1)) := by
      intro x hx; rw [hx]; exact G () trivial
    have vi : vp_in (nI i) 6 := vp_in_nI hi (by decide)
    have ew0 : yw (nI i).toNatClampNeg = nI (W i) := pl_rd hw hi (by omega) rfl
    have eu : yu (nI i).toNatClampNeg = nI (U i) := pl_rd hu hi (by omega) rfl
    have hi9 := hU i hi
    have hW5 := hW i hi
    refine br_f (pl_n6 hi) (pl_yL hl (br_f pl_10 ⟨vi, ?_⟩))
    by_cases w : W i = l + 1
    · have ew : yw (nI i).toNatClampNeg = nI l + 1 := by rw [ew0, w, nI_1]
      have es : ys (nI i).toNatClampNeg = nI (S i + 1) := by rw [nI_clamp (by omega)]; exact hs i hi (by omega)
      have si := hS i hi (by omega)
      refine br_t ew ?_
      cases hb : pl_bf U S W l i with
      | zero =>
        have f := pl_bf_y (U := U) (S := S) w (Or.inl hb)
        exact br_t (pl_neg rfl) (br_f pl_10 (nm_r (nI_1 i) (J _ (by rw [f]; rfl))))
      | succ b =>
        obtain ⟨hb1, hb2⟩ := pl_bf_s U S W l i b hb
        have h6 : b < 6 := by omega
        have vb : vp_in (pl_z (b + 1)) 6 := vp_in_nI h6 (by decide)
        have eb : yu (pl_z (b + 1)).toNatClampNeg = nI (U b) := pl_rd hu h6 (by omega) rfl
        have tb : ys (pl_z (b + 1)).toNatClampNeg = nI (S b + 1) := by
          show ys (nI b).toNatClampNeg = _
          rw [nI_clamp (by omega)]; exact hs b h6 (by omega)
        have sb := hS b h6 (by omega)
        have b9 := hU b h6
        have nb : ¬ pl_z (b + 1) < 0 := nI_pos (by omega)
        have bc := pl_bcs (U := U) (S := S) (i := i) hb
        have f1 : pl_bc U S (pl_bf U S W l i) i → nI i = pl_z (pl_bf U S W l (i + 1)) := fun c => by rw [pl_bf_y w c]; rfl
        have f0 : ¬ pl_bc U S (pl_bf U S W l i) i → pl_z (b + 1) = pl_z (pl_bf U S W l (i + 1)) := fun c => by rw [pl_bf_m c, hb]
        rw [bc] at f1 f0
        have on : nI i = pl_z (pl_bf U S W l (i + 1)) → wY_nextFor_83 post (wY_nextFor_8 post (nI l) ft yb yh yw ys yu n) (nI l) (pl_z (b + 1)) (nI i) ft yb yh yw ys yu := fun z => br_f pl_10 (nm_r (nI_1 i) (J _ z))
        have off : pl_z (b + 1) = pl_z (pl_bf U S W l (i + 1)) → wY_nextFor_87 post (wY_nextFor_8 post (nI l) ft yb yh yw ys yu n) (nI l) (pl_z (b + 1)) (nI i) ft yb yh yw ys yu := fun z => br_t rfl (nm_r (nI_1 i) (J _ z))
        by_cases c1 : U b < U i
        · have c1e : yu (pl_z (b + 1)).toNatClampNeg < yu (nI i).toNatClampNeg := by rw [eu, eb]; exact nI_lt c1 (by omega)
          exact br_f nb ⟨vi, vb, br_t c1e (on (f1 (by omega)))⟩
        · have c1e : ¬ yu (pl_z (b + 1)).toNatClampNeg < yu (nI i).toNatClampNeg := by rw [eu, eb]; exact nI_nlt (by omega) (by omega)
          refine br_f nb ⟨vi, vb, br_f c1e ⟨vi, vb, ?_⟩⟩
          by_cases c2 : U i = U b
          · have c2e : yu (nI i).toNatClampNeg = yu (pl_z (b + 1)).toNatClampNeg := by rw [eu, eb, c2]
            by_cases c3 : S b ≤ S i
            · have c3e : ys (pl_z (b + 1)).toNatClampNeg ≤ ys (nI i).toNatClampNeg := by rw [es, tb]; exact nI_le (by omega) (by omega)
              exact br_t c2e ⟨vi, vb, br_t c3e (off (f0 (by omega)))⟩
            · have c3e : ¬ ys (pl_z (b + 1)).toNatClampNeg ≤ ys (nI i).toNatClampNeg := by rw [es, tb]; exact nI_ge (by omega) (by omega)
              exact br_t c2e ⟨vi, vb, br_f c3e (on (f1 (by omega)))⟩
          · have c2e : ¬ yu (nI i).toNatClampNeg = yu (pl_z (b + 1)).toNatClampNeg := by rw [eu, eb, nI_eq (by omega) (by omega)]; exact c2
            exact br_f c2e (off (f0 (by omega)))
    · have ew : ¬ yw (nI i).toNatClampNeg = nI l + 1 := by rw [ew0, nI_1, nI_eq (by omega) (by omega)]; exact w
      exact br_f ew (nm_r (nI_1 i) (J _ (by rw [pl_bf_n w])))
theorem pl_ynext {post : Int32 → SY → Prop} {l : Nat} (g : pl_G B W H) (hb : ∀ t, t < 6 → yb t = nI (B t)) (hw : ∀ t, t < 6 → yw t = nI (W t)) (hh : ∀ l, l < 5 → yh l = nI (H l)) (hU : ∀ t, t < 6 → U t ≤ 9) (R : ∃ d, pl_Rk (pl_P W H) d) (F : ∀ x, x < 6 → pl_Fx B U (pl_P W H) x) (hl : l < 5) (hs : ∀ t, t < 6 → W t ≠ 0 → ys t = nI (S t + 1)) (hS : ∀ t, t < 6 → W t ≠ 0 → S t < 2000) (K : ∀ yu', post (pl_z (pl_bf U S W l 6)) (ft, yb, yh, yw, ys, yu')) : wpY_nextFor post (ft, yb, yh, yw, ys, yu) (nI l) := by
  unfold wpY_nextFor
  dsimp only
  exact pl_ylend g hb hw hh hU R F (fun yu' hu => pl_ynext8 hl hu hw hs hU g.2.1 hS (K yu'))
theorem pl_ynextn {post : Int32 → SY → Prop} {v : Int32} (g : pl_G B W H) (hb : ∀ t, t < 6 → yb t = nI (B t)) (hw : ∀ t, t < 6 → yw t = nI (W t)) (hh : ∀ l, l < 5 → yh l = nI (H l)) (hU : ∀ t, t < 6 → U t ≤ 9) (R : ∃ d, pl_Rk (pl_P W H) d) (F : ∀ x, x < 6 → pl_Fx B U (pl_P W H) x) (hv : v < 0 ∨ nI 5 ≤ v) (K : ∀ yu', post (-1) (ft, yb, yh, yw, ys, yu')) : wpY_nextFor post (ft, yb, yh, yw, ys, yu) v := by
  unfold wpY_nextFor
  dsimp only
  exact pl_ylend g hb hw hh hU R F (fun yu' hu => ⟨1, br_f (pl_n6 (i := 0) (by omega)) (pl_yLn hv (br_t rfl (K yu')))⟩)
theorem pl_ywait {post : Int32 → Prop} {l : Nat} (hl : l < 5) (hw : ∀ t, t < 6 → yw t = nI (W t)) (hW : ∀ t, t < 6 → W t ≤ 5) (K : post (nI (pl_wc W l 6))) : wpY_waiting post (ft, yb, yh, yw, ys, yu) (nI l) := by
  refine loop_0 (fun n i (_ : Unit) => wY_waiting_4 post (nI l) ft yb yh yw ys yu n (nI (pl_wc W l i)) (nI i)) (fun _ _ => True) 6 () trivial ?_ ?_
  · intro n _ _
    exact br_t pl_e6 K
  · intro n i _ hi _ G
    have J : ∀ x, x = nI (pl_wc W l (i + 1)) → wY_waiting_4 post (nI l) ft yb yh yw ys yu n x (nI (i + 1)) := by
      intro x hx; rw [hx]; exact G () trivial
    have vi : vp_in (nI i) 6 := vp_in_nI hi (by decide)
    have ew0 : yw (nI i).toNatClampNeg = nI (W i) := pl_rd hw hi (by omega) rfl
    have hW5 := hW i hi
    refine br_f (pl_n6 hi) (pl_yL hl (br_f pl_10 ⟨vi, ?_⟩))
    by_cases w : W i = l + 1
    · have ew : yw (nI i).toNatClampNeg = nI l + 1 := by rw [ew0, w, nI_1]
      exact br_t ew (nm_e (nm_r (nI_1 i) (J _ (by rw [pl_wc_y w]; exact nI_1 _))))
    · have ew : ¬ yw (nI i).toNatClampNeg = nI l + 1 := by rw [ew0, nI_1, nI_eq (by omega) (by omega)]; exact w
      exact br_f ew (nm_r (nI_1 i) (J _ (by rw [pl_wc_n w])))
theorem pl_ywaitn {post : Int32 → Prop} {v : Int32} (hv : v < 0 ∨ nI 5 ≤ v) (K : post 0) : wpY_waiting post (ft, yb, yh, yw, ys, yu) v :=
  ⟨1, br_f (pl_n6 (i := 0) (by omega)) (pl_yLn hv (br_t rfl K))⟩
theorem pl_yheld {post : Int32 → Prop} {t : Nat} (ht : t < 6) (hh : ∀ l, l < 5 → yh l = nI (H l)) (hH : ∀ l, l < 5 → H l ≤ 6) (K : post (nI (pl_mk (fun l => H l = t + 1) 5))) : wpY_held post (ft, yb, yh, yw, ys, yu) (nI t) := by
  refine loop_0 (fun n i (_ : Unit) => wY_held_4 post (nI t) ft yb yh yw ys yu n (nI (pl_mk (fun l => H l = t + 1) i)) (nI i)) (fun _ _ => True) 5 () trivial ?_ ?_
  · intro n _ _
    exact br_t pl_e5 K
  · intro n i _ hi _ G
    have J : ∀ x, x = nI (pl_mk (fun l => H l = t + 1) (i + 1)) → wY_held_4 post (nI t) ft yb yh yw ys yu n x (nI (i + 1)) := by
      intro x hx; rw [hx]; exact G () trivial
    have vi : vp_in (nI i) 5 := vp_in_nI hi (by decide)
    have eh : yh (nI i).toNatClampNeg = nI (H i) := pl_rd hh hi (by omega) rfl
    have h6 := hH i hi
    refine br_f (pl_n5 hi) (pl_yT ht (br_f pl_10 ⟨vi, ?_⟩))
    by_cases w : H i = t + 1
    · have ew : yh (nI i).toNatClampNeg = nI t + 1 := by rw [eh, w, nI_1]
      exact br_t ew (nm_e (nm_r (nI_1 i) (J _ (by rw [pl_mk_y (p := fun l => H l = t + 1) (i := i) w]; exact pl_or _ (pl_mk_lt _ i (by omega)) i (by omega)))))
    · have ew : ¬ yh (nI i).toNatClampNeg = nI t + 1 := by rw [eh, nI_1, nI_eq (by omega) (by omega)]; exact w
      exact br_f ew (nm_r (nI_1 i) (J _ (by rw [pl_mk_n (p := fun l => H l = t + 1) (i := i) w])))
theorem pl_yheldn {post : Int32 → Prop} {v : Int32} (hv : v < 0 ∨ nI 6 ≤ v) (K : post 0) : wpY_held post (ft, yb, yh, yw, ys, yu) v :=
  ⟨1, br_f (pl_n5 (i := 0) (by omega)) (pl_yTn hv (br_t rfl K))⟩
theorem pl_yrun8 {post : Int32 → SY → Prop} (hu : ∀ t, t < 6 → yu t = nI (U t)) (hw : ∀ t, t < 6 → yw t = nI (W t)) (hU : ∀ t, t < 6 → U t ≤ 9) (hW : ∀ t, t < 6 → W t ≤ 5) (K : post (pl_z (pl_rf U W 6)) (ft, yb, yh, yw, ys, yu)) : ∃ n, wY_running_8 post ft yb yh yw ys yu n (-1) 0 := by
  refine loop_0 (fun n i (_ : Unit) => wY_running_8 post ft yb yh yw ys yu n (pl_z (pl_rf U W i)) (nI i)) (fun _ _ => True) 6 () trivial ?_ ?_
  · intro n _ _
    exact br_t pl_e6 K
  · intro n i _ hi _ G
    have J : ∀ x, x = pl_z (pl_rf U W (i + 1)) → wY_running_8 post ft yb yh yw ys yu n x (nI (i + 1)) := by
      intro x hx; rw [hx]; exact G () trivial
    have vi : vp_in (nI i) 6 := vp_in_nI hi (by decide)
    have ew0 : yw (nI i).toNatClampNeg = nI (W i) := pl_rd hw hi (by omega) rfl
    have eu : yu (nI i).toNatClampNeg = nI (U i) := pl_rd hu hi (by omega) rfl
    have hi9 := hU i hi
    have hW5 := hW i hi
    refine br_f (pl_n6 hi) ⟨vi, ?_⟩
    by_cases w : W i = 0
    · have ew : yw (nI i).toNatClampNeg = 0 := by rw [ew0, w]; rfl
      refine br_t ew ?_
      cases hb : pl_rf U W i with
      | zero => exact br_t (pl_neg rfl) (nm_r (nI_1 i) (J _ (by rw [pl_rf_y w (Or.inl hb)]; rfl)))
      | succ b =>
        have hb1 := pl_rf_lt U W i
        have h6 : b < 6 := by omega
        have vb : vp_in (pl_z (b + 1)) 6 := vp_in_nI h6 (by decide)
        have eb : yu (pl_z (b + 1)).toNatClampNeg = nI (U b) := pl_rd hu h6 (by omega) rfl
        have b9 := hU b h6
        have nb : ¬ pl_z (b + 1) < 0 := nI_pos (by omega)
        by_cases c : U i ≤ U b
        · have ce : yu (nI i).toNatClampNeg ≤ yu (pl_z (b + 1)).toNatClampNeg := by rw [eu, eb]; exact nI_le c (by omega)
          have f : pl_rf U W (i + 1) = b + 1 := by
            rw [pl_rf_m, hb]
            rw [hb, Nat.add_sub_cancel]; omega
          exact br_f nb ⟨vi, vb, br_t ce (nm_r (nI_1 i) (J _ (by rw [f])))⟩
        · have ce : ¬ yu (nI i).toNatClampNeg ≤ yu (pl_z (b + 1)).toNatClampNeg := by rw [eu, eb]; exact nI_ge (by omega) (by omega)
          have f : pl_rf U W (i + 1) = i + 1 := by
            apply pl_rf_y w
            rw [hb, Nat.add_sub_cancel]; omega
          exact br_f nb ⟨vi, vb, br_f ce (nm_r (nI_1 i) (J _ (by rw [f]; rfl)))⟩
    · have ew : ¬ yw (nI i).toNatClampNeg = 0 := by rw [ew0]; exact nI_ne0 (by omega) (by omega)
      exact br_f ew (nm_r (nI_1 i) (J _ (by rw [pl_rf_n w])))
theorem pl_yrun {post : Int32 → SY → Prop} (g : pl_G B W H) (hb : ∀ t, t < 6 → yb t = nI (B t)) (hw : ∀ t, t < 6 → yw t = nI (W t)) (hh : ∀ l, l < 5 → yh l = nI (H l)) (hU : ∀ t, t < 6 → U t ≤ 9) (R : ∃ d, pl_Rk (pl_P W H) d) (F : ∀ x, x < 6 → pl_Fx B U (pl_P W H) x) (K : ∀ yu', post (pl_z (pl_rf U W 6)) (ft, yb, yh, yw, ys, yu')) : wpY_running post (ft, yb, yh, yw, ys, yu) := by
  unfold wpY_running
  dsimp only
  exact pl_ylend g hb hw hh hU R F (fun yu' hu => pl_yrun8 hu hw hU g.2.1 (K yu'))
theorem pl_ylift8 {post : Int32 → SY → Prop} (hb : ∀ t, t < 6 → yb t = nI (B t)) (hu : ∀ t, t < 6 → yu t = nI (U t)) (hB : ∀ t, t < 6 → B t ≤ 9) (hU : ∀ t, t < 6 → U t ≤ 9) (K : post (nI (pl_mk (fun t => B t < U t) 6)) (ft, yb, yh, yw, ys, yu)) : ∃ n, wY_lifted_8 post ft yb yh yw ys yu n 0 0 := by
  refine loop_0 (fun n i (_ : Unit) => wY_lifted_8 post ft yb yh yw ys yu n (nI (pl_mk (fun t => B t < U t) i)) (nI i)) (fun _ _ => True) 6 () trivial ?_ ?_
  · intro n _ _
    exact br_t pl_e6 K
  · intro n i _ hi _ G
    have J : ∀ x, x = nI (pl_mk (fun t => B t < U t) (i + 1)) → wY_lifted_8 post ft yb yh yw ys yu n x (nI (i + 1)) := by
      intro x hx; rw [hx]; exact G () trivial
    have vi : vp_in (nI i) 6 := vp_in_nI hi (by decide)
    have eb : yb (nI i).toNatClampNeg = nI (B i) := pl_rd hb hi (by omega) rfl
    have eu : yu (nI i).toNatClampNeg = nI (U i) := pl_rd hu hi (by omega) rfl
    have hi9 := hU i hi
    have hb9 := hB i hi
    refine br_f (pl_n6 hi) ⟨vi, vi, ?_⟩
    by_cases c : U i ≤ B i
    · have ce : yu (nI i).toNatClampNeg ≤ yb (nI i).toNatClampNeg := by rw [eu, eb]; exact nI_le c (by omega)
      exact br_t ce (nm_r (nI_1 i) (J _ (by rw [pl_mk_n (p := fun t => B t < U t) (i := i) (show ¬ B i < U i by omega)])))
    · have ce : ¬ yu (nI i).toNatClampNeg ≤ yb (nI i).toNatClampNeg := by rw [eu, eb]; exact nI_ge (by omega) (by omega)
      exact br_f ce (nm_e (nm_r (nI_1 i) (J _ (by rw [pl_mk_y (p := fun t => B t < U t) (i := i) (show B i < U i by omega)]; exact pl_or _ (pl_mk_lt _ i (by omega)) i hi))))
theorem pl_ylift {post : Int32 → SY → Prop} (g : pl_G B W H) (hb : ∀ t, t < 6 → yb t = nI (B t)) (hw : ∀ t, t < 6 → yw t = nI (W t)) (hh : ∀ l, l < 5 → yh l = nI (H l)) (hU : ∀ t, t < 6 → U t ≤ 9) (R : ∃ d, pl_Rk (pl_P W H) d) (F : ∀ x, x < 6 → pl_Fx B U (pl_P W H) x) (K : ∀ yu', post (nI (pl_mk (fun t => B t < U t) 6)) (ft, yb, yh, yw, ys, yu')) : wpY_lifted post (ft, yb, yh, yw, ys, yu) := by
  unfold wpY_lifted
  dsimp only
  exact pl_ylend g hb hw hh hU R F (fun yu' hu => pl_ylift8 hb hu g.1 hU (K yu'))
end
end
section
/-! ===== what the changes do to the forest, in naturals ===== -/
section
variable {B U W H S d : Nat → Nat}
theorem pl_PWn {t w s : Nat} (h : s ≠ t) : pl_P (pl_u W t w) H s = pl_P W H s := by
  unfold pl_P
  rw [pl_uN h]
theorem pl_PW0 {t : Nat} : pl_P (pl_u W t 0) H t = 0 := pl_P0 pl_uS
theorem pl_PWy {t l : Nat} : pl_P (pl_u W t (l + 1)) H t = H l := pl_Ps pl_uS
theorem pl_PHn {l x s : Nat} (h : W s ≠ l + 1) : pl_P W (pl_u H l x) s = pl_P W H s := by
  cases w : W s with
  | zero => rw [pl_P0 w, pl_P0 w]
  | succ m => rw [pl_Ps w, pl_Ps w, pl_uN (by omega)]
theorem pl_PHy {l x s : Nat} (h : W s = l + 1) : pl_P W (pl_u H l x) s = x := (pl_Ps h).trans pl_uS
/-! a lock that nobody waits for changes its holder -/
theorem pl_c1G {l x : Nat} (g : pl_G B W H) (hx : x ≤ 6) (n : ∀ s, s < 6 → W s ≠ l + 1) : pl_G B W (pl_u H l x) := by
  refine ⟨g.1, g.2.1, fun m hm => ?_, fun s hs m e => ?_⟩
  · by_cases z : m = l
    · rw [z, pl_uS]; exact hx
    · rw [pl_uN z]; exact g.2.2.1 m hm
  · have z : m ≠ l := by intro z; rw [z] at e; exact n s hs e
    rw [pl_uN z]; exact g.2.2.2 s hs m e
theorem pl_c1R {l x : Nat} (R : ∃ d, pl_Rk (pl_P W H) d) (n : ∀ s, s < 6 → W s ≠ l + 1) : ∃ d, pl_Rk (pl_P W (pl_u H l x)) d := by
  obtain ⟨d, R⟩ := R
  exact ⟨d, pl_rk_sub R (fun s hs => Or.inl (pl_PHn (n s hs)))⟩
theorem pl_c1F {l x y : Nat} (F : pl_Fx B U (pl_P W H) y) (n : ∀ s, s < 6 → W s ≠ l + 1) : pl_Fx B U (pl_P W (pl_u H l x)) y :=
  pl_Fx_cg F rfl (fun s hs => by rw [pl_PHn (n s hs)])
/-! a thread begins to wait -/
theorem pl_c2G {t l : Nat} (g : pl_G B W H) (hl : l < 5) (h : H l ≠ 0) : pl_G B (pl_u W t (l + 1)) H := by
  refine ⟨g.1, fun s hs => ?_, g.2.2.1, fun s hs m e => ?_⟩
  · by_cases z : s = t
    · rw [z, pl_uS]; omega
    · rw [pl_uN z]; exact g.2.1 s hs
  · by_cases z : s = t
    · rw [z, pl_uS] at e
      have : m = l := by omega
      rw [this]; exact h
    · rw [pl_uN z] at e; exact g.2.2.2 s hs m e
theorem pl_c2R {t l h : Nat} (R : ∃ d, pl_Rk (pl_P W H) d) (eh : H l = h + 1) (h6 : h < 6) (n1 : h ≠ t) (n2 : ¬ pl_Rc (pl_P W H) h t) : ∃ d, pl_Rk (pl_P (pl_u W t (l + 1)) H) d := by
  obtain ⟨d, R⟩ := R
  exact pl_rk_take R h6 (pl_PWy.trans eh) (fun s _ z => pl_PWn z) n1 n2
theorem pl_c2F {t l h x : Nat} (F : pl_Fx B U (pl_P W H) x) (w : W t = 0) (eh : H l = h + 1) (n : x ≠ h) : pl_Fx B U (pl_P (pl_u W t (l + 1)) H) x := by
  refine pl_Fx_cg F rfl (fun s hs => ?_)
  by_cases z : s = t
  · rw [z, pl_PWy, pl_P0 w, eh]; omega
  · rw [pl_PWn z]
/-! a thread waits no more -/
theorem pl_c3G {t : Nat} (g : pl_G B W H) : pl_G B (pl_u W t 0) H := by
  refine ⟨g.1, fun s hs => ?_, g.2.2.1, fun s hs m e => ?_⟩
  · by_cases z : s = t
    · rw [z, pl_uS]; omega
    · rw [pl_uN z]; exact g.2.1 s hs
  · by_cases z : s = t
    · rw [z, pl_uS] at e; omega
    · rw [pl_uN z] at e; exact g.2.2.2 s hs m e
theorem pl_c3R {t : Nat} (R : ∃ d, pl_Rk (pl_P W H) d) : ∃ d, pl_Rk (pl_P (pl_u W t 0) H) d := by
  obtain ⟨d, R⟩ := R
  refine ⟨d, pl_rk_sub R (fun s hs => ?_)⟩
  by_cases z : s = t
  · rw [z]; exact Or.inr pl_PW0
  · exact Or.inl (pl_PWn z)
theorem pl_c3F {t h x : Nat} (F : pl_Fx B U (pl_P W H) x) (p : pl_P W H t = h + 1) (n : x ≠ h) : pl_Fx B U (pl_P (pl_u W t 0) H) x := by
  refine pl_Fx_cg F rfl (fun s hs => ?_)
  by_cases z : s = t
  · rw [z, pl_PW0, p]; omega
  · rw [pl_PWn z]
/-! a base changes -/
theorem pl_c4G {t b : Nat} (g : pl_G B W H) (hb : b ≤ 9) : pl_G (pl_u B t b) W H := by
  refine ⟨fun s hs => ?_, g.2⟩
  by_cases z : s = t
  · rw [z, pl_uS]; exact hb
  · rw [pl_uN z]; exact g.1 s hs
theorem pl_c4F {t b x : Nat} (F : pl_Fx B U (pl_P W H) x) (n : x ≠ t) : pl_Fx (pl_u B t b) U (pl_P W H) x :=
  pl_Fx_cg F (pl_uN n) (fun s hs => Iff.rfl)
/-! a lock goes from t to q, who waited for it -/
theorem pl_c5G {l q : Nat} (g : pl_G B W H) (hq : q < 6) : pl_G B (pl_u W q 0) (pl_u H l (q + 1)) := by
  have g' := pl_c3G (t := q) g
  refine ⟨g'.1, g'.2.1, fun m hm => ?_, fun s hs m e => ?_⟩
  · by_cases z : m = l
    · rw [z, pl_uS]; omega
    · rw [pl_uN z]; exact g.2.2.1 m hm
  · by_cases z : m = l
    · rw [z, pl_uS]; omega
    · rw [pl_uN z]; exact g'.2.2.2 s hs m e
theorem pl_c5P {l q s : Nat} (z : s ≠ q) : (W s = l + 1 → pl_P (pl_u W q 0) (pl_u H l (q + 1)) s = q + 1) ∧ (W s ≠ l + 1 → pl_P (pl_u W q 0) (pl_u H l (q + 1)) s = pl_P W H s) := by
  constructor
  · intro w
    exact pl_PHy (by rw [pl_uN z]; exact w)
  · intro w
    rw [pl_PHn (by rw [pl_uN z]; exact w), pl_PWn z]
theorem pl_c5R {l q : Nat} (R : ∃ d, pl_Rk (pl_P W H) d) (hq : q < 6) : ∃ d, pl_Rk (pl_P (pl_u W q 0) (pl_u H l (q + 1))) d := by
  obtain ⟨d, R⟩ := R
  refine pl_rk_give R hq pl_PW0 (fun s hs z => ?_)
  by_cases w : W s = l + 1
  · exact Or.inr ((pl_c5P z).1 w)
  · exact Or.inl ((pl_c5P z).2 w)
theorem pl_c5F {l q t x : Nat} (F : pl_Fx B U (pl_P W H) x) (eh : H l = t + 1) (w : W q = l + 1) (n1 : x ≠ q) (n2 : x ≠ t) : pl_Fx B U (pl_P (pl_u W q 0) (pl_u H l (q + 1))) x := by
  refine pl_Fx_cg F rfl (fun s hs => ?_)
  by_cases z : s = q
  · rw [z, pl_PW0, pl_Ps w, eh]; omega
  · by_cases c : W s = l + 1
    · rw [(pl_c5P z).1 c, pl_Ps c, eh]; omega
    · rw [(pl_c5P z).2 c]
end
/-! ===== the relation ===== -/
def pl_X (B U W H S : Nat → Nat) (T : Nat) (u : SX) : Prop := match u with
  | (fs, xb, xu, xw, xs, xh) => fs = nI T ∧ (∀ t, t < 6 → xb t = nI (B t)) ∧ (∀ t, t < 6 → xu t = nI (U t)) ∧ (∀ t, t < 6 → xw t = pl_z (W t)) ∧ (∀ t, t < 6 → W t ≠ 0 → xs t = nI (S t)) ∧ (∀ l, l < 5 → xh l = pl_z (H l))
def pl_Y (B W H S : Nat → Nat) (T : Nat) (v : SY) : Prop := match v with
  | (ft, yb, yh, yw, ys, _) => ft = nI T ∧ (∀ t, t < 6 → yb t = nI (B t)) ∧ (∀ l, l < 5 → yh l = nI (H l)) ∧ (∀ t, t < 6 → yw t = nI (W t)) ∧ (∀ t, t < 6 → W t ≠ 0 → ys t = nI (S t + 1))
def pl_O (B U W H S : Nat → Nat) (T : Nat) : Prop := pl_G B W H ∧ (∀ t, t < 6 → U t ≤ 9) ∧ (∃ d, pl_Rk (pl_P W H) d) ∧ (∀ t, t < 6 → pl_Fx B U (pl_P W H) t) ∧ (∀ t, t < 6 → W t ≠ 0 → S t < T)
def i_Rel (k : Nat) (u : SX) (v : SY) : Prop := ∃ (B U W H S : Nat → Nat) (T : Nat), T ≤ k ∧ pl_X B U W H S T u ∧ pl_Y B W H S T v ∧ pl_O B U W H S T
theorem i_up {k : Nat} {u : SX} {v : SY} (h : i_Rel k u v) : i_Rel (k + 3) u v := by
  obtain ⟨B, U, W, H, S, T, hT, h⟩ := h
  exact ⟨B, U, W, H, S, T, by omega, h⟩
/-- elimination: the states written out -/
theorem pl_el {k : Nat} {Q : SX → SY → Prop} (h : ∀ (B U W H S : Nat → Nat) (T : Nat) (xb xu xw xs xh yb yh yw ys yu : Nat → Int32), T ≤ k → (∀ t, t < 6 → xb t = nI (B t)) → (∀ t, t < 6 → xu t = nI (U t)) → (∀ t, t < 6 → xw t = pl_z (W t)) → (∀ t, t < 6 → W t ≠ 0 → xs t = nI (S t)) → (∀ l, l < 5 → xh l = pl_z (H l)) → (∀ t, t < 6 → yb t = nI (B t)) → (∀ l, l < 5 → yh l = nI (H l)) → (∀ t, t < 6 → yw t = nI (W t)) → (∀ t, t < 6 → W t ≠ 0 → ys t = nI (S t + 1)) → pl_G B W H → (∀ t, t < 6 → U t ≤ 9) → (∃ d, pl_Rk (pl_P W H) d) → (∀ t, t < 6 → pl_Fx B U (pl_P W H) t) → (∀ t, t < 6 → W t ≠ 0 → S t < T) → Q (nI T, xb, xu, xw, xs, xh) (nI T, yb, yh, yw, ys, yu)) {u : SX} {v : SY} (I : i_Rel k u v) : Q u v := by
  obtain ⟨fs, xb, xu, xw, xs, xh⟩ := u
  obtain ⟨ft, yb, yh, yw, ys, yu⟩ := v
  obtain ⟨B, U, W, H, S, T, hT, ⟨e1, a1, a2, a3, a4, a5⟩, ⟨e2, b1, b2, b3, b4⟩, c1, c2, c3, c4, c5⟩ := I
  subst e1 e2
  exact h B U W H S T xb xu xw xs xh yb yh yw ys yu hT a1 a2 a3 a4 a5 b1 b2 b3 b4 c1 c2 c3 c4 c5
theorem pl_iu {k : Nat} {u : SX} {ft : Int32} {yb yh yw ys yu yu' : Nat → Int32} (I : i_Rel k u (ft, yb, yh, yw, ys, yu)) : i_Rel (k + 3) u (ft, yb, yh, yw, ys, yu') := by
  obtain ⟨B, U, W, H, S, T, hT, h, hY, hO⟩ := I
  exact ⟨B, U, W, H, S, T, by omega, h, hY, hO⟩
theorem pl_ix (x : Int32) (n : Nat) (hn : n < 100) : (x < 0 ∨ nI n ≤ x) ∨ ∃ j : Nat, j < n ∧ x = nI j := by
  by_cases h : x < 0
  · exact Or.inl (Or.inl h)
  · obtain ⟨j, hj, rfl⟩ := nI_of h
    by_cases h2 : j < n
    · exact Or.inr ⟨j, h2, rfl⟩
    · exact Or.inl (Or.inr (nI_le (by omega) hj))
theorem pl_zge {x : Int32} {n : Nat} (e : x = pl_z n) (h : n ≠ 0) (h2 : n < 100) : 0 ≤ x := by
  obtain ⟨m, rfl⟩ : ∃ m, n = m + 1 := ⟨n - 1, by omega⟩
  exact pl_ge e (by omega)
theorem pl_ypos {x : Int32} {n : Nat} (e : x = nI n) (h : n ≠ 0) (h2 : n < 100) : 0 < x := by
  rw [e, ← nI_0]; exact nI_lt (by omega) (by omega)
theorem pl_ynp {x : Int32} (e : x = nI 0) : ¬ 0 < x := by rw [e]; decide
end
section
/-! ===== owed: the constructors, and the calls that only read ===== -/
theorem pl_init66 {post : SX → Prop} {xw : Nat → Int32} (K : ∀ xh, (∀ l, l < 5 → xh l = pl_z 0) → post (0, (fun _ => 0), (fun _ => 0), xw, (fun _ => 0), xh)) : ∃ n, wX_init_66 post 0 n 0 (fun _ => 0) (fun _ => 0) xw (fun _ => 0) (fun _ => 0) := by
  refine loop_0 (fun n i (s : Nat → Int32) => wX_init_66 post 0 n (nI i) (fun _ => 0) (fun _ => 0) xw (fun _ => 0) s) (fun i s => ∀ l, l < i → s l = pl_z 0) 5 (fun _ => 0) (fun l h => absurd h (Nat.not_lt_zero l)) ?_ ?_
  · intro n s I
    exact br_t pl_e5 (K s I)
  · intro n i s hi I J
    refine br_f (pl_n5 hi) ⟨vp_in_nI hi (by decide), fun s' es => nm_r (nI_1 i) (J s' ?_)⟩
    rw [nI_clamp (by omega), pl_bm] at es
    intro l hl
    by_cases z : l = i
    · rw [es, z, pl_us]
    · rw [es, pl_un z]; exact I l (by omega)
theorem pl_init {post : SX → Prop} (K : ∀ xw xh, (∀ t, t < 6 → xw t = pl_z 0) → (∀ l, l < 5 → xh l = pl_z 0) → post (0, (fun _ => 0), (fun _ => 0), xw, (fun _ => 0), xh)) : wpX_init post := by
  refine loop_0 (fun n i (s : Nat → Int32) => wX_init_45 post 0 n (nI i) (fun _ => 0) (fun _ => 0) s (fun _ => 0) (fun _ => 0)) (fun i s => ∀ l, l < i → s l = pl_z 0) 6 (fun _ => 0) (fun l h => absurd h (Nat.not_lt_zero l)) ?_ ?_
  · intro n s I
    exact br_t pl_e6 (pl_init66 (fun xh hh => K s xh I hh))
  · intro n i s hi I J
    refine br_f (pl_n6 hi) ⟨vp_in_nI hi (by decide), fun s' es => nm_r (nI_1 i) (J s' ?_)⟩
    rw [nI_clamp (by omega), pl_bm] at es
    intro l hl
    by_cases z : l = i
    · rw [es, z, pl_us]
    · rw [es, pl_un z]; exact I l (by omega)
theorem i_vc0 : wpX_init (fun u => wpY_init (fun v => i_Rel 0 u v)) := by
  refine pl_init (fun xw xh hw hh => ?_)
  have p0 : ∀ s, pl_P (fun _ => 0) (fun _ => 0) s = 0 := fun s => pl_P0 rfl
  refine ⟨fun _ => 0, fun _ => 0, fun _ => 0, fun _ => 0, fun _ => 0, 0, Nat.le_refl 0, ⟨nI_0.symm, fun _ _ => nI_0.symm, fun _ _ => nI_0.symm, hw, fun _ _ h => absurd rfl h, hh⟩, ⟨nI_0.symm, fun _ _ => nI_0.symm, fun _ _ => nI_0.symm, fun _ _ => nI_0.symm, fun _ _ h => absurd rfl h⟩, ⟨fun _ _ => Nat.zero_le _, fun _ _ => Nat.zero_le _, fun _ _ => Nat.zero_le _, fun t _ l h => ?_⟩, fun _ _ => Nat.zero_le _, ⟨fun _ => 0, fun s _ h e => ?_⟩, fun t ht => ⟨Nat.le_refl 0, fun s _ e => Nat.le_refl 0, Or.inl rfl⟩, fun _ _ h => absurd rfl h⟩
  · exact absurd h (by show ¬ 0 = l + 1; omega)
  · rw [p0 s] at e; omega
theorem i_vc_urgency {k : Nat} {u : SX} {v : SY} (I : i_Rel k u v) (hk : k + 3 ≤ 1536) (v1 : Int32) : wpX_urgency (fun r => wpY_urgency (fun r' v' => r' = r ∧ i_Rel (k + 3) u v') v v1) u v1 := by
  refine pl_el (Q := fun u v => i_Rel k u v → wpX_urgency (fun r => wpY_urgency (fun r' v' => r' = r ∧ i_Rel (k + 3) u v') v v1) u v1) ?_ I I
  intro B U W H S T xb xu xw xs xh yb yh yw ys yu hT hb hu hw hs hh kb kh kw ks g hU R F hS I
  unfold wpX_urgency wpY_urgency
  dsimp only
  rcases pl_ix v1 6 (by omega) with hv | ⟨t, ht, rfl⟩
  · refine pl_xTn hv (br_t rfl ?_)
    exact pl_ylend g kb kw kh hU R F (fun yu' hu' => pl_yTn hv (br_t rfl ⟨rfl, pl_iu I⟩))
  · have vt : vp_in (nI t) 6 := vp_in_nI ht (by decide)
    refine pl_xT ht (br_f pl_10 ⟨vt, ?_⟩)
    refine pl_ylend g kb kw kh hU R F (fun yu' hu' => pl_yT ht (br_f pl_10 ⟨vt, ?_, pl_iu I⟩))
    have e1 : xu (nI t).toNatClampNeg = nI (U t) := pl_rd hu ht (by omega) rfl
    have e2 : yu' (nI t).toNatClampNeg = nI (U t) := pl_rd hu' ht (by omega) rfl
    exact e2.trans e1.symm
theorem i_vc_base {k : Nat} {u : SX} {v : SY} (I : i_Rel k u v) (hk : k + 3 ≤ 1536) (v1 : Int32) : wpX_base (fun r => wpY_base (fun r' => r' = r ∧ i_Rel (k + 3) u v) v v1) u v1 := by
  refine pl_el (Q := fun u v => i_Rel k u v → wpX_base (fun r => wpY_base (fun r' => r' = r ∧ i_Rel (k + 3) u v) v v1) u v1) ?_ I I
  intro B U W H S T xb xu xw xs xh yb yh yw ys yu hT hb hu hw hs hh kb kh kw ks g hU R F hS I
  unfold wpX_base wpY_base
  dsimp only
  rcases pl_ix v1 6 (by omega) with hv | ⟨t, ht, rfl⟩
  · exact pl_xTn hv (br_t rfl (pl_yTn hv (br_t rfl ⟨rfl, i_up I⟩)))
  · have vt : vp_in (nI t) 6 := vp_in_nI ht (by decide)
    refine pl_xT ht (br_f pl_10 ⟨vt, pl_yT ht (br_f pl_10 ⟨vt, ?_, i_up I⟩)⟩)
    have e1 : xb (nI t).toNatClampNeg = nI (B t) := pl_rd hb ht (by omega) rfl
    have e2 : yb (nI t).toNatClampNeg = nI (B t) := pl_rd kb ht (by omega) rfl
    rw [e1, e2]
theorem i_vc_holder {k : Nat} {u : SX} {v : SY} (I : i_Rel k u v) (hk : k + 3 ≤ 1536) (v1 : Int32) : wpX_holder (fun r => wpY_holder (fun r' => r' = r ∧ i_Rel (k + 3) u v) v v1) u v1 := by
  refine pl_el (Q := fun u v => i_Rel k u v → wpX_holder (fun r => wpY_holder (fun r' => r' = r ∧ i_Rel (k + 3) u v) v v1) u v1) ?_ I I
  intro B U W H S T xb xu xw xs xh yb yh yw ys yu hT hb hu hw hs hh kb kh kw ks g hU R F hS I
  unfold wpX_holder wpY_holder
  dsimp only
  rcases pl_ix v1 5 (by omega) with hv | ⟨l, hl, rfl⟩
  · exact pl_xLn hv (br_t rfl (pl_yLn hv (br_t rfl ⟨rfl, i_up I⟩)))
  · have vl : vp_in (nI l) 5 := vp_in_nI hl (by decide)
    refine pl_xL hl (br_f pl_10 ⟨vl, pl_yL hl (br_f pl_10 ⟨vl, ?_, i_up I⟩)⟩)
    have e1 : xh (nI l).toNatClampNeg = pl_z (H l) := pl_rd hh hl (by omega) rfl
    have e2 : yh (nI l).toNatClampNeg = nI (H l) := pl_rd kh hl (by omega) rfl
    rw [e1, e2, pl_y]
theorem i_vc_waitsFor {k : Nat} {u : SX} {v : SY} (I : i_Rel k u v) (hk : k + 3 ≤ 1536) (v1 : Int32) : wpX_waitsFor (fun r => wpY_waitsFor (fun r' => r' = r ∧ i_Rel (k + 3) u v) v v1) u v1 := by
  refine pl_el (Q := fun u v => i_Rel k u v → wpX_waitsFor (fun r => wpY_waitsFor (fun r' => r' = r ∧ i_Rel (k + 3) u v) v v1) u v1) ?_ I I
  intro B U W H S T xb xu xw xs xh yb yh yw ys yu hT hb hu hw hs hh kb kh kw ks g hU R F hS I
  unfold wpX_waitsFor wpY_waitsFor
  dsimp only
  rcases pl_ix v1 6 (by omega) with hv | ⟨t, ht, rfl⟩
  · exact pl_xTn hv (br_t rfl (pl_yTn hv (br_t rfl ⟨rfl, i_up I⟩)))
  · have vt : vp_in (nI t) 6 := vp_in_nI ht (by decide)
    refine pl_xT ht (br_f pl_10 ⟨vt, pl_yT ht (br_f pl_10 ⟨vt, ?_, i_up I⟩)⟩)
    have e1 : xw (nI t).toNatClampNeg = pl_z (W t) := pl_rd hw ht (by omega) rfl
    have e2 : yw (nI t).toNatClampNeg = nI (W t) := pl_rd kw ht (by omega) rfl
    rw [e1, e2, pl_y]
theorem i_vc_waiting {k : Nat} {u : SX} {v : SY} (I : i_Rel k u v) (hk : k + 3 ≤ 1536) (v1 : Int32) : wpX_waiting (fun r => wpY_waiting (fun r' => r' = r ∧ i_Rel (k + 3) u v) v v1) u v1 := by
  refine pl_el (Q := fun u v => i_Rel k u v → wpX_waiting (fun r => wpY_waiting (fun r' => r' = r ∧ i_Rel (k + 3) u v) v v1) u v1) ?_ I I
  intro B U W H S T xb xu xw xs xh yb yh yw ys yu hT hb hu hw hs hh kb kh kw ks g hU R F hS I
  rcases pl_ix v1 5 (by omega) with hv | ⟨l, hl, rfl⟩
  · exact pl_xwaitn hv (pl_ywaitn hv ⟨rfl, i_up I⟩)
  · exact pl_xwait hl hw g.2.1 (pl_ywait hl kw g.2.1 ⟨rfl, i_up I⟩)
theorem i_vc_nextFor {k : Nat} {u : SX} {v : SY} (I : i_Rel k u v) (hk : k + 3 ≤ 1536) (v1 : Int32) : wpX_nextFor (fun r => wpY_nextFor (fun r' v' => r' = r ∧ i_Rel (k + 3) u v') v v1) u v1 := by
  refine pl_el (Q := fun u v => i_Rel k u v → wpX_nextFor (fun r => wpY_nextFor (fun r' v' => r' = r ∧ i_Rel (k + 3) u v') v v1) u v1) ?_ I I
  intro B U W H S T xb xu xw xs xh yb yh yw ys yu hT hb hu hw hs hh kb kh kw ks g hU R F hS I
  have hS2 : ∀ t, t < 6 → W t ≠ 0 → S t < 2000 := fun t ht w => by have := hS t ht w; omega
  unfold wpX_nextFor
  dsimp only
  rcases pl_ix v1 5 (by omega) with hv | ⟨l, hl, rfl⟩
  · exact pl_xLn hv (br_t rfl (pl_ynextn g kb kw kh hU R F hv (fun yu' => ⟨rfl, pl_iu I⟩)))
  · exact pl_xL hl (br_f pl_10 (pl_xbest hl hu hw hs hU g.2.1 hS2 (pl_ynext g kb kw kh hU R F hl ks hS2 (fun yu' => ⟨rfl, pl_iu I⟩))))
theorem i_vc_held {k : Nat} {u : SX} {v : SY} (I : i_Rel k u v) (hk : k + 3 ≤ 1536) (v1 : Int32) : wpX_held (fun r => wpY_held (fun r' => r' = r ∧ i_Rel (k + 3) u v) v v1) u v1 := by
  refine pl_el (Q := fun u v => i_Rel k u v → wpX_held (fun r => wpY_held (fun r' => r' = r ∧ i_Rel (k + 3) u v) v v1) u v1) ?_ I I
  intro B U W H S T xb xu xw xs xh yb yh yw ys yu hT hb hu hw hs hh kb kh kw ks g hU R F hS I
  rcases pl_ix v1 6 (by omega) with hv | ⟨t, ht, rfl⟩
  · exact pl_xheldn hv (pl_yheldn hv ⟨rfl, i_up I⟩)
  · exact pl_xheld ht hh g.2.2.1 (pl_yheld ht kh g.2.2.1 ⟨rfl, i_up I⟩)
theorem i_vc_running {k : Nat} {u : SX} {v : SY} (I : i_Rel k u v) (hk : k + 3 ≤ 1536) : wpX_running (fun r => wpY_running (fun r' v' => r' = r ∧ i_Rel (k + 3) u v') v) u := by
  refine pl_el (Q := fun u v => i_Rel k u v → wpX_running (fun r => wpY_running (fun r' v' => r' = r ∧ i_Rel (k + 3) u v') v) u) ?_ I I
  intro B U W H S T xb xu xw xs xh yb yh yw ys yu hT hb hu hw hs hh kb kh kw ks g hU R F hS I
  exact pl_xrun hu hw hU g.2.1 (pl_yrun g kb kw kh hU R F (fun yu' => ⟨rfl, pl_iu I⟩))
theorem i_vc_waitingOn {k : Nat} {u : SX} {v : SY} (I : i_Rel k u v) (hk : k + 3 ≤ 1536) (v1 : Int32) : wpX_waitingOn (fun r => wpY_waitingOn (fun r' => r' = r ∧ i_Rel (k + 3) u v) v v1) u v1 := by
  refine pl_el (Q := fun u v => i_Rel k u v → wpX_waitingOn (fun r => wpY_waitingOn (fun r' => r' = r ∧ i_Rel (k + 3) u v) v v1) u v1) ?_ I I
  intro B U W H S T xb xu xw xs xh yb yh yw ys yu hT hb hu hw hs hh kb kh kw ks g hU R F hS I
  unfold wpY_waitingOn
  dsimp only
  rcases pl_ix v1 6 (by omega) with hv | ⟨t, ht, rfl⟩
  · exact pl_xwonn hv (pl_yTn hv (br_t rfl ⟨rfl, i_up I⟩))
  · exact pl_xwon g hw hh R ht (pl_yT ht (br_f pl_10 (pl_ybeh g kw kh R ht ⟨rfl, i_up I⟩)))
theorem i_vc_lifted {k : Nat} {u : SX} {v : SY} (I : i_Rel k u v) (hk : k + 3 ≤ 1536) : wpX_lifted (fun r => wpY_lifted (fun r' v' => r' = r ∧ i_Rel (k + 3) u v') v) u := by
  refine pl_el (Q := fun u v => i_Rel k u v → wpX_lifted (fun r => wpY_lifted (fun r' v' => r' = r ∧ i_Rel (k + 3) u v') v) u) ?_ I I
  intro B U W H S T xb xu xw xs xh yb yh yw ys yu hT hb hu hw hs hh kb kh kw ks g hU R F hS I
  exact pl_xlift hb hu g.1 hU (pl_ylift g kb kw kh hU R F (fun yu' => ⟨rfl, pl_iu I⟩))
end
section
/-! ===== owed: setBase, giveUp, take ===== -/
theorem pl_n9 {v : Int32} (h : nI 10 ≤ v) : ¬ v ≤ 9 := by
  rw [Int32.le_iff_toInt_le] at h
  rw [Int32.le_iff_toInt_le]
  have a : (nI 10).toInt = 10 := by decide
  have b : (9 : Int32).toInt = 9 := by decide
  omega
theorem pl_l9 {b : Nat} (h : b < 10) : nI b ≤ 9 := by
  rw [pl_9]; exact nI_le (by omega) (by decide)
theorem pl_w0 {W : Nat → Nat} {t : Nat} {Q : Nat → Prop} (h : ∀ s, s < 6 → W s ≠ 0 → Q s) : ∀ s, s < 6 → pl_u W t 0 s ≠ 0 → Q s := by
  intro s hs w
  by_cases z : s = t
  · rw [z, pl_uS] at w; exact absurd rfl w
  · rw [pl_uN z] at w; exact h s hs w
theorem pl_w1 {W S : Nat → Nat} {t w x : Nat} {a c : Nat → Int32} {y : Int32} (E : Nat → Int32) (h : ∀ s, s < 6 → W s ≠ 0 → a s = E (S s)) (hc : c = upd a t y) (hy : y = E x) : ∀ s, s < 6 → pl_u W t w s ≠ 0 → c s = E (pl_u S t x s) := by
  intro s hs n
  by_cases z : s = t
  · rw [hc, z, pl_us, pl_uS, hy]
  · rw [pl_uN z] at n
    rw [hc, pl_un z, pl_uN z]; exact h s hs n
theorem pl_wS {W S : Nat → Nat} {t w T : Nat} (h : ∀ s, s < 6 → W s ≠ 0 → S s < T) : ∀ s, s < 6 → pl_u W t w s ≠ 0 → pl_u S t T s < T + 1 := by
  intro s hs n
  by_cases z : s = t
  · rw [z, pl_uS]; omega
  · rw [pl_uN z] at n
    rw [pl_uN z]
    have := h s hs n
    omega
theorem i_vc_setBase {k : Nat} {u : SX} {v : SY} (I : i_Rel k u v) (hk : k + 3 ≤ 1536) (v1 : Int32) (v2 : Int32) : wpX_setBase (fun r u' => wpY_setBase (fun r' v' => r' = r ∧ i_Rel (k + 3) u' v') v v1 v2) u v1 v2 := by
  refine pl_el (Q := fun u v => i_Rel k u v → wpX_setBase (fun r u' => wpY_setBase (fun r' v' => r' = r ∧ i_Rel (k + 3) u' v') v v1 v2) u v1 v2) ?_ I I
  intro B U W H S T xb xu xw xs xh yb yh yw ys yu hT hb hu hw hs hh kb kh kw ks g hU R F hS I
  unfold wpX_setBase wpY_setBase
  dsimp only
  rcases pl_ix v1 6 (by omega) with hv | ⟨t, ht, rfl⟩
  · exact pl_xTn hv (br_t rfl (pl_yTn hv (br_t rfl ⟨rfl, i_up I⟩)))
  · have vt : vp_in (nI t) 6 := vp_in_nI ht (by decide)
    rcases pl_ix v2 10 (by omega) with hv | ⟨b, hb10, rfl⟩
    · by_cases c : v2 < 0
      · exact pl_xT ht (br_f pl_10 (br_t c (pl_yT ht (br_f pl_10 (br_t c ⟨rfl, i_up I⟩)))))
      · have c2 := pl_n9 (hv.resolve_left c)
        exact pl_xT ht (br_f pl_10 (br_f c (br_f c2 (pl_yT ht (br_f pl_10 (br_f c (br_f c2 ⟨rfl, i_up I⟩)))))))
    · have c : ¬ nI b < 0 := nI_pos (by omega)
      have c2 := pl_l9 hb10
      have hb9 : b ≤ 9 := by omega
      refine pl_xT ht (br_f pl_10 (br_f c (br_t c2 ⟨vt, fun xb' ex => ?_⟩)))
      rw [nI_clamp (by omega), pl_b b (by omega)] at ex
      have hb' : ∀ s, s < 6 → xb' s = nI (pl_u B t b s) := pl_st nI hb ex rfl
      refine pl_xref (e := 6) (pl_c4G g hb9) hb' hu hw hh hU R ht (fun x hx n _ => pl_c4F (F x hx) n) (fun U' xu' f1 f2 f3 => ?_)
      refine pl_yT ht (br_f pl_10 (br_f c (br_t c2 ⟨vt, fun yb' ey => ⟨rfl, ?_⟩⟩)))
      rw [nI_clamp (by omega)] at ey
      exact ⟨pl_u B t b, U', W, H, S, T, by omega, ⟨rfl, hb', f1, hw, hs, hh⟩, ⟨rfl, pl_st nI kb ey rfl, kh, kw, ks⟩, pl_c4G g hb9, f2, R, fun x hx => f3 x hx (by omega), hS⟩
theorem i_vc_giveUp {k : Nat} {u : SX} {v : SY} (I : i_Rel k u v) (hk : k + 3 ≤ 1536) (v1 : Int32) : wpX_giveUp (fun r u' => wpY_giveUp (fun r' v' => r' = r ∧ i_Rel (k + 3) u' v') v v1) u v1 := by
  refine pl_el (Q := fun u v => i_Rel k u v → wpX_giveUp (fun r u' => wpY_giveUp (fun r' v' => r' = r ∧ i_Rel (k + 3) u' v') v v1) u v1) ?_ I I
  intro B U W H S T xb xu xw xs xh yb yh yw ys yu hT hb hu hw hs hh kb kh kw ks g hU R F hS I
  unfold wpX_giveUp wpY_giveUp
  dsimp only
  rcases pl_ix v1 6 (by omega) with hv | ⟨t, ht, rfl⟩
  · exact pl_xTn hv (br_t rfl (pl_yTn hv (br_t rfl ⟨rfl, i_up I⟩)))
  · have vt : vp_in (nI t) 6 := vp_in_nI ht (by decide)
    have ey0 : yw (nI t).toNatClampNeg = nI (W t) := pl_rd kw ht (by omega) rfl
    rcases pl_xc g hw hh ht (rfl : nI t = nI t) with ⟨w, ew, p⟩ | ⟨l, h, w, hl, eh, h6, ew, e2, p⟩
    · have ey : yw (nI t).toNatClampNeg = 0 := by rw [ey0, w]; rfl
      exact pl_xT ht (br_f pl_10 ⟨vt, br_f (pl_ng ew) (pl_yT ht (br_f pl_10 ⟨vt, br_t ey ⟨rfl, i_up I⟩⟩))⟩)
    · have ey : ¬ yw (nI t).toNatClampNeg = 0 := by rw [ey0, w]; exact nI_ne0 (by omega) (by omega)
      refine pl_xT ht (br_f pl_10 ⟨vt, br_t (pl_ge ew (by omega)) ⟨vt, pl_in ew hl (by decide), nm_r e2 ⟨vt, fun xw' ex => ?_⟩⟩⟩)
      rw [nI_clamp (by omega), pl_bm] at ex
      have hw' : ∀ s, s < 6 → xw' s = pl_z (pl_u W t 0 s) := pl_st pl_z hw ex rfl
      refine pl_xref (e := 6) (pl_c3G g) hb hu hw' hh hU (pl_c3R R) h6 (fun x hx n _ => pl_c3F (F x hx) p n) (fun U' xu' f1 f2 f3 => ?_)
      refine pl_yT ht (br_f pl_10 ⟨vt, br_f ey ⟨vt, fun yw' ey' => ⟨rfl, ?_⟩⟩⟩)
      rw [nI_clamp (by omega)] at ey'
      exact ⟨B, U', pl_u W t 0, H, S, T, by omega, ⟨rfl, hb, f1, hw', pl_w0 hs, hh⟩, ⟨rfl, kb, kh, pl_st nI kw ey' nI_0.symm, pl_w0 ks⟩, pl_c3G g, f2, pl_c3R R, fun x hx => f3 x hx (by omega), pl_w0 hS⟩
end
section
theorem i_vc_take {k : Nat} {u : SX} {v : SY} (I : i_Rel k u v) (hk : k + 3 ≤ 1536) (v1 : Int32) (v2 : Int32) : wpX_take (fun r u' => wpY_take (fun r' v' => r' = r ∧ i_Rel (k + 3) u' v') v v1 v2) u v1 v2 := by
  refine pl_el (Q := fun u v => i_Rel k u v → wpX_take (fun r u' => wpY_take (fun r' v' => r' = r ∧ i_Rel (k + 3) u' v') v v1 v2) u v1 v2) ?_ I I
  intro B U W H S T xb xu xw xs xh yb yh yw ys yu hT hb hu hw hs hh kb kh kw ks g hU R F hS I
  unfold wpX_take wpY_take
  dsimp only
  rcases pl_ix v1 6 (by omega) with hv | ⟨t, ht, rfl⟩
  · exact pl_xTn hv (br_t rfl (pl_yTn hv (br_t rfl ⟨rfl, i_up I⟩)))
  rcases pl_ix v2 5 (by omega) with hv | ⟨l, hl, rfl⟩
  · exact pl_xT ht (br_f pl_10 (pl_xLn hv (br_t rfl (pl_yT ht (br_f pl_10 (pl_yLn hv (br_t rfl ⟨rfl, i_up I⟩)))))))
  have vt : vp_in (nI t) 6 := vp_in_nI ht (by decide)
  have vl : vp_in (nI l) 5 := vp_in_nI hl (by decide)
  have ew : xw (nI t).toNatClampNeg = pl_z (W t) := pl_rd hw ht (by omega) rfl
  have ey : yw (nI t).toNatClampNeg = nI (W t) := pl_rd kw ht (by omega) rfl
  have eh : xh (nI l).toNatClampNeg = pl_z (H l) := pl_rd hh hl (by omega) rfl
  have ei : yh (nI l).toNatClampNeg = nI (H l) := pl_rd kh hl (by omega) rfl
  have w5 := g.2.1 t ht
  have h6 := g.2.2.1 l hl
  by_cases w : W t = 0
  case neg =>
    exact pl_xT ht (br_f pl_10 (pl_xL hl (br_f pl_10 ⟨vt, br_t (pl_zge ew w (by omega)) (pl_yT ht (br_f pl_10 (pl_yL hl (br_f pl_10 ⟨vt, br_t (pl_ypos ey w (by omega)) ⟨rfl, i_up I⟩⟩))))⟩)))
  rw [w] at ew ey
  have ew' := pl_ng ew
  have ey' := pl_ynp ey
  by_cases q : H l = t + 1
  · have qx : xh (nI l).toNatClampNeg = nI t := by rw [eh, q]; rfl
    have qy : yh (nI l).toNatClampNeg = nI t + 1 := by rw [ei, q, nI_1]
    exact pl_xT ht (br_f pl_10 (pl_xL hl (br_f pl_10 ⟨vt, br_f ew' ⟨vl, br_t qx (pl_yT ht (br_f pl_10 (pl_yL hl (br_f pl_10 ⟨vt, br_f ey' ⟨vl, br_t qy ⟨rfl, i_up I⟩⟩⟩))))⟩⟩)))
  have qx : ¬ xh (nI l).toNatClampNeg = nI t := by rw [eh, pl_zeq (by omega) (by omega)]; exact q
  have qy : ¬ yh (nI l).toNatClampNeg = nI t + 1 := by rw [ei, nI_1, nI_eq (by omega) (by omega)]; exact q
  refine pl_xT ht (br_f pl_10 (pl_xL hl (br_f pl_10 ⟨vt, br_f ew' ⟨vl, br_f qx ⟨vl, ?_⟩⟩⟩)))
  cases hc : H l with
  | zero =>
    rw [hc] at eh ei
    have ei0 : yh (nI l).toNatClampNeg = 0 := ei
    have n : ∀ s, s < 6 → W s ≠ l + 1 := fun s hs z => g.2.2.2 s hs l z hc
    refine nm_r eh (br_f (pl_ng rfl) ⟨vl, fun xh' ex => ?_⟩)
    rw [nI_clamp (by omega), pl_b t (by omega)] at ex
    refine pl_yT ht (br_f pl_10 (pl_yL hl (br_f pl_10 ⟨vt, br_f ey' ⟨vl, br_f qy ⟨vl, br_t ei0 ⟨vl, fun yh' ez => ⟨rfl, ?_⟩⟩⟩⟩⟩)))
    rw [nI_clamp (by omega), nI_1] at ez
    exact ⟨B, U, W, pl_u H l (t + 1), S, T, by omega, ⟨rfl, hb, hu, hw, hs, pl_st (x := t + 1) pl_z hh ex rfl⟩, ⟨rfl, kb, pl_st nI kh ez rfl, kw, ks⟩, pl_c1G g (by omega) n, hU, pl_c1R R n, fun x hx => pl_c1F (F x hx) n, hS⟩
  | succ h =>
    rw [hc] at eh ei
    have eh' : xh (nI l).toNatClampNeg = nI h := eh
    have ei' : yh (nI l).toNatClampNeg - 1 = nI h := by rw [ei]; exact nI_pred h
    have ein : ¬ yh (nI l).toNatClampNeg = 0 := by rw [ei]; exact nI_ne0 (by omega) (by omega)
    have hh6 : h < 6 := by omega
    have ml := pl_mk_lt (fun s => pl_Rc (pl_P W H) s t) 6 (by omega)
    have mb := pl_mk_tb (fun s => pl_Rc (pl_P W H) s t) 6 h
    refine nm_r eh' (br_t (pl_ge rfl (by omega)) (pl_xdep g hw hh R hh6 ht (fun c => br_f pl_10 ?_) (fun c => br_t rfl ⟨vt, fun xw' ex => ⟨vt, fun xs' es => nm_r (nI_1 T) ?_⟩⟩)))
    · refine pl_yT ht (br_f pl_10 (pl_yL hl (br_f pl_10 ⟨vt, br_f ey' ⟨vl, br_f qy ⟨vl, br_f ein ⟨vl, nm_r ei' (pl_ybeh g kw kh R ht (br_t ?_ ⟨rfl, i_up I⟩))⟩⟩⟩⟩)))
      exact (pl_tb _ ml h hh6).mpr (mb.mpr ⟨hh6, c⟩)
    · rw [nI_clamp (by omega), pl_b l (by omega)] at ex
      rw [nI_clamp (by omega)] at es
      have hn : h ≠ t := by intro z; exact q (by omega)
      have hw' : ∀ s, s < 6 → xw' s = pl_z (pl_u W t (l + 1) s) := pl_st (x := l + 1) pl_z hw ex rfl
      have g' : pl_G B (pl_u W t (l + 1)) H := pl_c2G g hl (by omega)
      have R' := pl_c2R R hc hh6 hn c
      refine pl_xref (e := 6) g' hb hu hw' hh hU R' hh6 (fun x hx n _ => pl_c2F (F x hx) w hc n) (fun U' xu' f1 f2 f3 => ?_)
      have nb : ¬ ((nI (pl_mk (fun s => pl_Rc (pl_P W H) s t) 6) >>> (nI h &&& 31)) &&& 1) = 1 := by
        rw [pl_tb _ ml h hh6, mb]
        exact fun z => c z.2
      refine pl_yT ht (br_f pl_10 (pl_yL hl (br_f pl_10 ⟨vt, br_f ey' ⟨vl, br_f qy ⟨vl, br_f ein ⟨vl, nm_r ei' (pl_ybeh g kw kh R ht (br_f nb ⟨vt, fun yw' ez => nm_r (nI_1 T) ⟨vt, fun ys' et => ⟨rfl, ?_⟩⟩⟩))⟩⟩⟩⟩)))
      rw [nI_clamp (by omega), nI_1] at ez
      rw [nI_clamp (by omega)] at et
      exact ⟨B, U', pl_u W t (l + 1), H, pl_u S t T, T + 1, by omega, ⟨rfl, hb, f1, hw', pl_w1 nI hs es rfl, hh⟩, ⟨rfl, kb, kh, pl_st nI kw ez rfl, pl_w1 (fun n => nI (n + 1)) ks et rfl⟩, g', f2, R', fun x hx => f3 x hx (by omega), pl_wS hS⟩
end
section
theorem i_vc_give {k : Nat} {u : SX} {v : SY} (I : i_Rel k u v) (hk : k + 3 ≤ 1536) (v1 : Int32) (v2 : Int32) : wpX_give (fun r u' => wpY_give (fun r' v' => r' = r ∧ i_Rel (k + 3) u' v') v v1 v2) u v1 v2 := by
  refine pl_el (Q := fun u v => i_Rel k u v → wpX_give (fun r u' => wpY_give (fun r' v' => r' = r ∧ i_Rel (k + 3) u' v') v v1 v2) u v1 v2) ?_ I I
  intro B U W H S T xb xu xw xs xh yb yh yw ys yu hT hb hu hw hs hh kb kh kw ks g hU R F hS I
  have hS2 : ∀ t, t < 6 → W t ≠ 0 → S t < 2000 := fun t ht w => by have := hS t ht w; omega
  unfold wpX_give wpY_give
  dsimp only
  rcases pl_ix v1 6 (by omega) with hv | ⟨t, ht, rfl⟩
  · exact pl_xTn hv (br_t rfl (pl_yTn hv (br_t rfl ⟨rfl, i_up I⟩)))
  rcases pl_ix v2 5 (by omega) with hv | ⟨l, hl, rfl⟩
  · exact pl_xT ht (br_f pl_10 (pl_xLn hv (br_t rfl (pl_yT ht (br_f pl_10 (pl_yLn hv (br_t rfl ⟨rfl, i_up I⟩)))))))
  have vt : vp_in (nI t) 6 := vp_in_nI ht (by decide)
  have vl : vp_in (nI l) 5 := vp_in_nI hl (by decide)
  have ew : xw (nI t).toNatClampNeg = pl_z (W t) := pl_rd hw ht (by omega) rfl
  have ey : yw (nI t).toNatClampNeg = nI (W t) := pl_rd kw ht (by omega) rfl
  have eh : xh (nI l).toNatClampNeg = pl_z (H l) := pl_rd hh hl (by omega) rfl
  have ei : yh (nI l).toNatClampNeg = nI (H l) := pl_rd kh hl (by omega) rfl
  have w5 := g.2.1 t ht
  have h6 := g.2.2.1 l hl
  by_cases w : W t = 0
  case neg =>
    exact pl_xT ht (br_f pl_10 (pl_xL hl (br_f pl_10 ⟨vt, br_t (pl_zge ew w (by omega)) (pl_yT ht (br_f pl_10 (pl_yL hl (br_f pl_10 ⟨vt, br_t (pl_ypos ey w (by omega)) ⟨rfl, i_up I⟩⟩))))⟩)))
  rw [w] at ew ey
  have ew' := pl_ng ew
  have ey' := pl_ynp ey
  by_cases q : H l = t + 1
  case neg =>
    have qx : ¬ xh (nI l).toNatClampNeg = nI t := by rw [eh, pl_zeq (by omega) (by omega)]; exact q
    have qy : ¬ yh (nI l).toNatClampNeg = nI t + 1 := by rw [ei, nI_1, nI_eq (by omega) (by omega)]; exact q
    exact pl_xT ht (br_f pl_10 (pl_xL hl (br_f pl_10 ⟨vt, br_f ew' ⟨vl, br_f qx (pl_yT ht (br_f pl_10 (pl_yL hl (br_f pl_10 ⟨vt, br_f ey' ⟨vl, br_f qy ⟨rfl, i_up I⟩⟩⟩))))⟩⟩)))
  have qx : xh (nI l).toNatClampNeg = nI t := by rw [eh, q]; rfl
  have qy : yh (nI l).toNatClampNeg = nI t + 1 := by rw [ei, q, nI_1]
  refine pl_xT ht (br_f pl_10 (pl_xL hl (br_f pl_10 ⟨vt, br_f ew' ⟨vl, br_t qx (pl_xbest hl hu hw hs hU g.2.1 hS2 ?_)⟩⟩)))
  cases hc : pl_bf U S W l 6 with
  | zero =>
    have n := pl_bf_0 U S W l 6 hc
    refine ⟨vl, fun xh' ex => br_t (pl_neg rfl) ?_⟩
    rw [nI_clamp (by omega), pl_bz 0 (by omega)] at ex
    have hh' : ∀ m, m < 5 → xh' m = pl_z (pl_u H l 0 m) := pl_st pl_z hh ex rfl
    unfold wX_give_66
    refine pl_xref (e := 6) (pl_c1G g (by omega) n) hb hu hw hh' hU (pl_c1R R n) ht (fun x hx _ _ => pl_c1F (F x hx) n) (fun U' xu' f1 f2 f3 => ?_)
    refine pl_yT ht (br_f pl_10 (pl_yL hl (br_f pl_10 ⟨vt, br_f ey' ⟨vl, br_t qy (pl_ynext g kb kw kh hU R F hl ks hS2 (fun yu' => ?_))⟩⟩)))
    rw [hc]
    refine ⟨vl, fun yh' ez => br_t (pl_neg rfl) ⟨rfl, ?_⟩⟩
    rw [nI_clamp (by omega), pl_zy] at ez
    exact ⟨B, U', W, pl_u H l 0, S, T, by omega, ⟨rfl, hb, f1, hw, hs, hh'⟩, ⟨rfl, kb, pl_st nI kh ez rfl, kw, ks⟩, pl_c1G g (by omega) n, f2, pl_c1R R n, fun x hx => f3 x hx (by omega), hS⟩
  | succ p =>
    obtain ⟨p6, wp⟩ := pl_bf_s U S W l 6 p hc
    have vp : vp_in (pl_z (p + 1)) 6 := vp_in_nI p6 (by decide)
    have np : ¬ pl_z (p + 1) < 0 := nI_pos (by omega)
    have g' : pl_G B (pl_u W p 0) (pl_u H l (p + 1)) := pl_c5G g p6
    have R' := pl_c5R (l := l) R p6
    refine ⟨vl, fun xh' ex => br_f np ⟨vp, fun xw' ev => ?_⟩⟩
    rw [nI_clamp (by omega), pl_bz (p + 1) (by omega)] at ex
    rw [show (pl_z (p + 1)).toNatClampNeg = p from nI_clamp (by omega), pl_bm] at ev
    have hh' : ∀ m, m < 5 → xh' m = pl_z (pl_u H l (p + 1) m) := pl_st pl_z hh ex rfl
    have hw' : ∀ s, s < 6 → xw' s = pl_z (pl_u W p 0 s) := pl_st pl_z hw ev rfl
    show wpX_refresh _ _ (nI p)
    refine pl_xref (e := t) g' hb hu hw' hh' hU R' p6 (fun x hx n1 n2 => pl_c5F (F x hx) q wp n1 n2) (fun U1 xu1 a1 a2 a3 => ?_)
    dsimp only
    unfold wX_give_66
    refine pl_xref (e := 6) g' hb a1 hw' hh' a2 R' ht (fun x hx n _ => a3 x hx n) (fun U' xu' f1 f2 f3 => ?_)
    refine pl_yT ht (br_f pl_10 (pl_yL hl (br_f pl_10 ⟨vt, br_f ey' ⟨vl, br_t qy (pl_ynext g kb kw kh hU R F hl ks hS2 (fun yu' => ?_))⟩⟩)))
    rw [hc]
    refine ⟨vl, fun yh' ez => br_f np ⟨vp, fun yw' et => ⟨rfl, ?_⟩⟩⟩
    rw [nI_clamp (by omega), pl_zy] at ez
    rw [show (pl_z (p + 1)).toNatClampNeg = p from nI_clamp (by omega)] at et
    exact ⟨B, U', pl_u W p 0, pl_u H l (p + 1), S, T, by omega, ⟨rfl, hb, f1, hw', pl_w0 hs, hh'⟩, ⟨rfl, kb, pl_st nI kh ez rfl, pl_st nI kw et nI_0.symm, pl_w0 ks⟩, g', f2, R', fun x hx => f3 x hx (by omega), pl_w0 hS⟩
end
