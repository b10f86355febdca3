section
/-! bits of an Int32 (rows of BITS.to-paste, renamed) -/
def sy_bt (x : Int32) (i : Nat) : Bool := x.toBitVec.getLsbD i
theorem sy_ext {x y : Int32} (h : ∀ i, i < 32 → sy_bt x i = sy_bt y i) : x = y := Int32.toBitVec_inj.mp (BitVec.eq_of_getLsbD_eq (fun i hi => h i hi))
theorem sy_or (x y : Int32) (i : Nat) : sy_bt (x ||| y) i = (sy_bt x i || sy_bt y i) := by unfold sy_bt; rw [Int32.toBitVec_or, BitVec.getLsbD_or]
theorem sy_and (x y : Int32) (i : Nat) : sy_bt (x &&& y) i = (sy_bt x i && sy_bt y i) := by unfold sy_bt; rw [Int32.toBitVec_and, BitVec.getLsbD_and]
theorem sy_xor (x y : Int32) (i : Nat) : sy_bt (x ^^^ y) i = (sy_bt x i ^^ sy_bt y i) := by unfold sy_bt; rw [Int32.toBitVec_xor, BitVec.getLsbD_xor]
theorem sy_m1 : ∀ i, i < 32 → sy_bt (-1) i = true := by decide +kernel
theorem sy_b0 (i : Nat) : sy_bt 0 i = false := BitVec.getLsbD_zero
theorem sy_all : ∀ i, i < 16 → sy_bt 65535 i = true := by decide +kernel
theorem sy_sl : ∀ n, n < 32 → ((nI n &&& 31).toBitVec.smod 32).toNat = n := by decide +kernel
theorem sy_sshr (n : Nat) (hn : n < 32) (x : Int32) {i : Nat} (hi : i < 32) : sy_bt (x >>> (nI n &&& 31)) i = if n + i < 32 then sy_bt x (n + i) else sy_bt x 31 := by
  unfold sy_bt
  rw [Int32.toBitVec_shiftRight]
  show (x.toBitVec.sshiftRight ((nI n &&& 31).toBitVec.smod 32).toNat).getLsbD i = _
  rw [sy_sl n hn, BitVec.getLsbD_sshiftRight, BitVec.msb_eq_getLsbD_last]
  simp [hi]
theorem sy_one : ∀ i, i < 32 → sy_bt 1 i = decide (i = 0) := by decide +kernel
theorem sy_bit1 : ∀ f, f < 16 → ∀ i, i < 16 → sy_bt ((1 : Int32) <<< (nI f &&& 31)) i = decide (i = f) := by decide +kernel
/-- a Bool as the JVM's int -/
def sy_z : Bool → Int32
  | true => 1
  | false => 0
theorem sy_z0 {b : Bool} : sy_z b = 0 ↔ b = false := by cases b <;> decide
theorem sy_z1 {b : Bool} : sy_z b = 1 ↔ b = true := by cases b <;> decide
theorem sy_ze {b d : Bool} : sy_z b = sy_z d ↔ b = d := by cases b <;> cases d <;> decide
theorem sy_nf {b : Bool} (h : ¬ b = true) : b = false := by cases b <;> simp_all
theorem sy_nt {b : Bool} (h : ¬ b = false) : b = true := by cases b <;> simp_all
/-- one bit, as the class reads it -/
theorem sy_bit (x : Int32) {f : Nat} (hf : f < 16) : (x >>> (nI f &&& 31)) &&& 1 = sy_z (sy_bt x f) := by
  apply sy_ext
  intro i hi
  rw [sy_and, sy_sshr f (by omega) x hi, sy_one i hi]
  by_cases e : i = 0
  · subst e
    rw [if_pos (by omega), Nat.add_zero]
    cases sy_bt x f <;> decide
  · rw [decide_eq_false e, Bool.and_false]
    cases sy_bt x f
    · exact (sy_b0 i).symm
    · show false = sy_bt 1 i
      rw [sy_one i hi, decide_eq_false e]
/-! what a bit and an int stand for -/
def sy_vl (b : Bool) (x : Int32) : Option Int32 := match b with
  | true => some x
  | false => none
def sy_lv (m : Int32) (a : Nat → Int32) (f : Nat) : Option Int32 := sy_vl (sy_bt m f) (a f)
def sy_ow (a5 a6 : Nat → Int32) (s f : Nat) : Option Int32 := sy_vl (sy_bt (a5 s) f) (a6 (16 * s + f))
theorem sy_vl_eq {b d : Bool} {x y : Int32} : sy_vl b x = sy_vl d y ↔ b = d ∧ (d = true → x = y) := by
  cases b <;> cases d <;> simp [sy_vl]
/-! numbers -/
theorem sy_nm {s : Nat} (h : s < 2 ^ 31) : ¬ nI s = -1 := by
  intro e
  have h1 : (nI s).toInt = (s : Int) := nI_toInt h
  rw [e] at h1
  have h2 : (-1 : Int32).toInt = -1 := by decide
  omega
theorem sy_pigeon : ∀ (c n : Nat) (o : Nat → Nat), (∀ s, s < n → ∃ p, p < c ∧ o p = s) → n ≤ c := by
  intro c
  induction c with
  | zero =>
    intro n o h
    rcases Nat.eq_zero_or_pos n with z | z
    · omega
    · obtain ⟨p, hp, _⟩ := h 0 z
      omega
  | succ c ih =>
    intro n o h
    rcases Nat.lt_or_ge (o c) n with z | z
    · have k := ih (n - 1) (fun p => if o p = n - 1 then o c else o p) (by
        intro s hs
        by_cases e : s = o c
        · obtain ⟨p, hp, hq⟩ := h (n - 1) (by omega)
          have hpc : p ≠ c := by
            intro e2
            rw [e2] at hq
            omega
          refine ⟨p, by omega, ?_⟩
          show (if o p = n - 1 then o c else o p) = s
          rw [if_pos hq, e]
        · obtain ⟨p, hp, hq⟩ := h s (by omega)
          have hpc : p ≠ c := by
            intro e2
            rw [e2] at hq
            exact e hq.symm
          refine ⟨p, by omega, ?_⟩
          show (if o p = n - 1 then o c else o p) = s
          rw [if_neg (by omega), hq])
      omega
    · have k := ih n o (by
        intro s hs
        obtain ⟨p, hp, hq⟩ := h s hs
        have hpc : p ≠ c := by
          intro e2
          rw [e2] at hq
          omega
        exact ⟨p, by omega, hq⟩)
      omega
/-! loops whose end is one known state for every post -/
theorem sy_lp {P σ ρ : Type} (W : P → Nat → Nat → σ → Prop) (K : P → ρ → Prop) (I : Nat → σ → Prop) (Q : ρ → Prop) (e : Nat)
    (hx : ∀ s, I e s → ∃ r, Q r ∧ ∀ po n, K po r → W po (n + 1) e s)
    (hs : ∀ i s, i < e → I i s → ∃ s', I (i + 1) s' ∧ ∀ po n, W po n (i + 1) s' → W po (n + 1) i s) :
    ∀ k i s, i + k = e → I i s → ∃ r, Q r ∧ ∃ n, ∀ po, K po r → W po n i s := by
  intro k
  induction k with
  | zero =>
    intro i s hi hI
    have e1 : i = e := by omega
    subst e1
    obtain ⟨r, q, h⟩ := hx s hI
    exact ⟨r, q, 1, fun po k => h po 0 k⟩
  | succ k ih =>
    intro i s hi hI
    obtain ⟨s', hI', h⟩ := hs i s (by omega) hI
    obtain ⟨r, q, n, hn⟩ := ih (i + 1) s' (by omega) hI'
    exact ⟨r, q, n + 1, fun po k => h po n (hn po k)⟩
theorem sy_lpd {P σ ρ : Type} (W : P → Nat → Nat → σ → Prop) (K : P → ρ → Prop) (I : Nat → σ → Prop) (Q : ρ → Prop)
    (hx : ∀ s, I 0 s → ∃ r, Q r ∧ ∀ po n, K po r → W po (n + 1) 0 s)
    (hs : ∀ i s, I (i + 1) s → ∃ s', I i s' ∧ ∀ po n, W po n i s' → W po (n + 1) (i + 1) s) :
    ∀ i s, I i s → ∃ r, Q r ∧ ∃ n, ∀ po, K po r → W po n i s := by
  intro i
  induction i with
  | zero =>
    intro s hI
    obtain ⟨r, q, h⟩ := hx s hI
    exact ⟨r, q, 1, fun po k => h po 0 k⟩
  | succ i ih =>
    intro s hI
    obtain ⟨s', hI', h⟩ := hs i s hI
    obtain ⟨r, q, n, hn⟩ := ih s' hI'
    exact ⟨r, q, n + 1, fun po k => h po n (hn po k)⟩
end
section
/-! the picture: c points, o their slots, V what each holds -/
def sy_I (c : Nat) (o : Nat → Nat) (V : Nat → Nat → Option Int32) (lm : Int32) (a1 a2 a3 a4 a5 a6 a9 a10 : Nat → Int32) : Prop :=
  c ≤ 14 ∧ (∀ p, p < c → o p < 14 ∧ a2 p = nI (o p) ∧ ¬ a10 (o p) = 0) ∧ (∀ p q, p < c → q < c → o p = o q → p = q) ∧ (∀ s, s < 14 → ¬ a10 s = 0 → ∃ p, p < c ∧ o p = s) ∧
  (∀ p, p < c → a3 (o p) = -1 ∨ ∃ q, q < p ∧ a3 (o p) = nI (o q)) ∧
  (∀ p f, p < c → f < 16 → sy_bt (a5 (o p)) f = true → sy_bt (a4 (o p)) f = true) ∧
  (∀ p f, p < c → f < 16 → sy_bt (a4 (o p)) f = true → V p f = sy_ow a5 a6 (o p) f) ∧
  (∀ p f, p < c → f < 16 → sy_bt (a4 (o p)) f = false → ∃ q, q < p ∧ a3 (o p) = nI (o q) ∧ V p f = V q f) ∧
  (∀ p f, p < c → f < 16 → sy_bt (a9 (o p)) f = false → V p f = sy_lv lm a1 f)
/-- the live set goes on: what isn't marked as touched hasn't changed -/
def sy_R (lm lm' : Int32) (a1 a1' a9 a9' : Nat → Int32) : Prop := ∀ j g, j < 14 → g < 16 → sy_bt (a9' j) g = false → sy_bt (a9 j) g = false ∧ sy_lv lm' a1' g = sy_lv lm a1 g
theorem sy_R_refl (lm : Int32) (a1 a9 : Nat → Int32) : sy_R lm lm a1 a1 a9 a9 := fun _ _ _ _ h => ⟨h, rfl⟩
theorem sy_R_trans {m m' m'' : Int32} {a a' a'' b b' b'' : Nat → Int32} (h : sy_R m m' a a' b b') (k : sy_R m' m'' a' a'' b' b'') : sy_R m m'' a a'' b b'' := by
  intro j g hj hg hb
  obtain ⟨e1, e2⟩ := k j g hj hg hb
  obtain ⟨e3, e4⟩ := h j g hj hg e1
  exact ⟨e3, e2.trans e4⟩
theorem sy_R_I {c : Nat} {o : Nat → Nat} {V : Nat → Nat → Option Int32} {lm lm' : Int32} {a1 a1' a2 a3 a4 a5 a6 a9 a9' a10 : Nat → Int32} (I : sy_I c o V lm a1 a2 a3 a4 a5 a6 a9 a10) (R : sy_R lm lm' a1 a1' a9 a9') : sy_I c o V lm' a1' a2 a3 a4 a5 a6 a9' a10 := by
  obtain ⟨h1, h2, h3, h4, h5, h6, h7, h8, h9⟩ := I
  refine ⟨h1, h2, h3, h4, h5, h6, h7, h8, fun p f hp hf hb => ?_⟩
  obtain ⟨e1, e2⟩ := R (o p) f (h2 p hp).1 hf hb
  rw [e2]
  exact h9 p f hp hf e1
/-- nothing is stored -/
theorem sy_I_0 {o : Nat → Nat} {V : Nat → Nat → Option Int32} {lm : Int32} {a1 a2 a3 a4 a5 a6 a9 a10 : Nat → Int32} (h : ∀ s, a10 s = 0) : sy_I 0 o V lm a1 a2 a3 a4 a5 a6 a9 a10 :=
  ⟨by omega, fun p hp => absurd hp (by omega), fun p q hp => absurd hp (by omega), fun s _ hs => absurd (h s) hs, fun p hp => absurd hp (by omega), fun p f hp => absurd hp (by omega), fun p f hp => absurd hp (by omega), fun p f hp => absurd hp (by omega), fun p f hp => absurd hp (by omega)⟩
theorem sy_eqI {a b : Nat} (ha : a < 14) (hb : b < 14) (h : nI a = nI b) : a = b := (nI_eq (by omega) (by omega)).mp h
/-! a point is taken -/
def sy_oT (o : Nat → Nat) (c s : Nat) : Nat → Nat := fun q => if q = c then s else o q
def sy_vT (V : Nat → Nat → Option Int32) (c : Nat) (w : Nat → Option Int32) : Nat → Nat → Option Int32 := fun q => if q = c then w else V q
theorem sy_oT1 {o : Nat → Nat} {c s : Nat} : sy_oT o c s c = s := if_pos rfl
theorem sy_oT2 {o : Nat → Nat} {c s q : Nat} (h : q ≠ c) : sy_oT o c s q = o q := if_neg h
theorem sy_vT1 {V : Nat → Nat → Option Int32} {c : Nat} {w : Nat → Option Int32} : sy_vT V c w c = w := if_pos rfl
theorem sy_vT2 {V : Nat → Nat → Option Int32} {c q : Nat} {w : Nat → Option Int32} (h : q ≠ c) : sy_vT V c w q = V q := if_neg h
theorem sy_I_take {c s : Nat} {o : Nat → Nat} {V : Nat → Nat → Option Int32} {lm b en : Int32} {a1 a2 a3 a4 a5 a6 a6' a9 a10 : Nat → Int32} (I : sy_I c o V lm a1 a2 a3 a4 a5 a6 a9 a10) (hc : c < 14) (hs : s < 14) (hf : a10 s = 0)
    (B : (b = -1 ∧ ∀ f, f < 16 → sy_bt en f = true) ∨ (∃ q, q < c ∧ b = nI (o q) ∧ en = a9 (o q)))
    (C1 : ∀ f, f < 16 → sy_bt en f = true → a6' (16 * s + f) = a1 f) (C2 : ∀ j f, j < 14 → f < 16 → j ≠ s → a6' (16 * j + f) = a6 (16 * j + f)) :
    sy_I (c + 1) (sy_oT o c s) (sy_vT V c (sy_lv lm a1)) lm a1 (upd a2 c (nI s)) (upd a3 s b) (upd a4 s en) (upd a5 s (lm &&& en)) a6' (upd a9 s 0) (upd a10 s 1) := by
  obtain ⟨h1, h2, h3, h4, h5, h6, h7, h8, h9⟩ := I
  have ne : ∀ p, p < c → o p ≠ s := fun p hp e => (h2 p hp).2.2 (by rw [e]; exact hf)
  refine ⟨by omega, ?_, ?_, ?_, ?_, ?_, ?_, ?_, ?_⟩
  · intro p hp
    by_cases e : p = c
    · subst e
      rw [sy_oT1, pk_us, pk_us]
      exact ⟨hs, rfl, by decide⟩
    · obtain ⟨k1, k2, k3⟩ := h2 p (by omega)
      rw [sy_oT2 e, pk_un e, pk_un (ne p (by omega))]
      exact ⟨k1, k2, k3⟩
  · intro p q hp hq hh
    by_cases e : p = c
    · by_cases e2 : q = c
      · omega
      · rw [e, sy_oT1, sy_oT2 e2] at hh
        exact absurd hh.symm (ne q (by omega))
    · by_cases e2 : q = c
      · rw [e2, sy_oT1, sy_oT2 e] at hh
        exact absurd hh (ne p (by omega))
      · rw [sy_oT2 e, sy_oT2 e2] at hh
        exact h3 p q (by omega) (by omega) hh
  · intro t ht hn
    by_cases e : t = s
    · exact ⟨c, by omega, by rw [sy_oT1, e]⟩
    · rw [pk_un e] at hn
      obtain ⟨p, hp, hh⟩ := h4 t ht hn
      exact ⟨p, by omega, by rw [sy_oT2 (by omega)]; exact hh⟩
  · intro p hp
    by_cases e : p = c
    · subst e
      rw [sy_oT1, pk_us]
      rcases B with ⟨z, _⟩ | ⟨q, hq, z, _⟩
      · exact Or.inl z
      · exact Or.inr ⟨q, hq, by rw [sy_oT2 (by omega)]; exact z⟩
    · rw [sy_oT2 e, pk_un (ne p (by omega))]
      rcases h5 p (by omega) with z | ⟨q, hq, z⟩
      · exact Or.inl z
      · exact Or.inr ⟨q, hq, by rw [sy_oT2 (by omega)]; exact z⟩
  · intro p f hp hff
    by_cases e : p = c
    · subst e
      rw [sy_oT1, pk_us, pk_us, sy_and]
      intro z
      exact (Bool.and_eq_true_iff.mp z).2
    · rw [sy_oT2 e, pk_un (ne p (by omega)), pk_un (ne p (by omega))]
      exact h6 p f (by omega) hff
  · intro p f hp hff
    by_cases e : p = c
    · subst e
      rw [sy_oT1, pk_us, sy_vT1]
      intro z
      unfold sy_ow sy_lv
      rw [pk_us, sy_and, z, Bool.and_true, C1 f hff z]
    · rw [sy_oT2 e, pk_un (ne p (by omega)), sy_vT2 e]
      intro z
      unfold sy_ow
      rw [pk_un (ne p (by omega)), C2 (o p) f (h2 p (by omega)).1 hff (ne p (by omega))]
      exact h7 p f (by omega) hff z
  · intro p f hp hff
    by_cases e : p = c
    · subst e
      rw [sy_oT1, pk_us, pk_us, sy_vT1]
      intro z
      rcases B with ⟨_, y⟩ | ⟨q, hq, y, y2⟩
      · exact absurd (y f hff) (by rw [z]; decide)
      · refine ⟨q, hq, by rw [sy_oT2 (by omega)]; exact y, ?_⟩
        rw [sy_vT2 (by omega)]
        exact (h9 q f hq hff (by rw [← y2]; exact z)).symm
    · rw [sy_oT2 e, pk_un (ne p (by omega)), pk_un (ne p (by omega)), sy_vT2 e]
      intro z
      obtain ⟨q, hq, y, y2⟩ := h8 p f (by omega) hff z
      exact ⟨q, hq, by rw [sy_oT2 (by omega)]; exact y, by rw [sy_vT2 (by omega)]; exact y2⟩
  · intro p f hp hff
    by_cases e : p = c
    · subst e
      rw [sy_vT1]
      exact fun _ => rfl
    · rw [sy_oT2 e, pk_un (ne p (by omega)), sy_vT2 e]
      exact h9 p f (by omega) hff
/-! a point is dropped -/
def sy_sh (p q : Nat) : Nat := if q < p then q else q + 1
theorem sy_sh_lt {p q c : Nat} (hp : p < c) (hq : q < c - 1) : sy_sh p q < c := by unfold sy_sh; split <;> omega
theorem sy_sh_ne {p q : Nat} : sy_sh p q ≠ p := by unfold sy_sh; split <;> omega
theorem sy_sh_inj {p q r : Nat} (h : sy_sh p q = sy_sh p r) : q = r := by unfold sy_sh at h; split at h <;> split at h <;> omega
theorem sy_sh_mono {p q r : Nat} (h : sy_sh p q < sy_sh p r) : q < r := by unfold sy_sh at h; split at h <;> split at h <;> omega
theorem sy_sh_on {p r c : Nat} (hr : r < c) (hn : r ≠ p) (hp : p < c) : ∃ q, q < c - 1 ∧ sy_sh p q = r := by
  by_cases e : r < p
  · exact ⟨r, by omega, by unfold sy_sh; rw [if_pos e]⟩
  · exact ⟨r - 1, by omega, by unfold sy_sh; rw [if_neg (by omega)]; omega⟩
/-- slot j rests on slot s -/
def sy_ch (a3 a10 : Nat → Int32) (s j : Nat) : Prop := ¬ a10 j = 0 ∧ a3 j = nI s
/-- what j lacks and s has -/
def sy_ms (a4 : Nat → Int32) (s j : Nat) : Int32 := a4 s &&& (a4 j ^^^ (-1))
theorem sy_ms_bt (a4 : Nat → Int32) (s j : Nat) {f : Nat} (hf : f < 16) : sy_bt (sy_ms a4 s j) f = (sy_bt (a4 s) f && !sy_bt (a4 j) f) := by
  unfold sy_ms
  rw [sy_and, sy_xor, sy_m1 f (by omega)]
  cases sy_bt (a4 j) f <;> rfl
theorem sy_I_drop {c p : Nat} {o : Nat → Nat} {V : Nat → Nat → Option Int32} {lm : Int32} {a1 a2 a2' a3 a3' a4 a4' a5 a5' a6 a6' a9 a10 : Nat → Int32} (I : sy_I c o V lm a1 a2 a3 a4 a5 a6 a9 a10) (hp : p < c)
    (H2 : ∀ q, q < c - 1 → a2' q = a2 (sy_sh p q))
    (D : ∀ j, j < 14 → sy_ch a3 a10 (o p) j → a3' j = a3 (o p) ∧ a4' j = a4 j ||| a4 (o p) ∧ a5' j = a5 j ||| (a5 (o p) &&& sy_ms a4 (o p) j) ∧ ∀ f, f < 16 → a6' (16 * j + f) = if sy_bt (sy_ms a4 (o p) j) f = true then a6 (16 * (o p) + f) else a6 (16 * j + f))
    (E : ∀ j, j < 14 → ¬ sy_ch a3 a10 (o p) j → a3' j = a3 j ∧ a4' j = a4 j ∧ a5' j = a5 j ∧ ∀ f, f < 16 → a6' (16 * j + f) = a6 (16 * j + f)) :
    sy_I (c - 1) (fun q => o (sy_sh p q)) (fun q => V (sy_sh p q)) lm a1 a2' a3' a4' a5' a6' a9 (upd a10 (o p) 0) := by
  obtain ⟨h1, h2, h3, h4, h5, h6, h7, h8, h9⟩ := I
  have on : ∀ q, q < c → q ≠ p → o q ≠ o p := fun q hq hn e => hn (h3 q p hq hp e)
  -- who rests on p stands behind p
  have be : ∀ r q, r < c → q < r → a3 (o r) = nI (o q) → sy_ch a3 a10 (o p) (o r) → q = p := by
    intro r q hr hq e ch
    have e2 : nI (o q) = nI (o p) := e.symm.trans ch.2
    exact h3 q p (by omega) hp (sy_eqI (h2 q (by omega)).1 (h2 p hp).1 e2)
  have lt : ∀ r, r < c → sy_ch a3 a10 (o p) (o r) → p < r := by
    intro r hr ch
    rcases h5 r hr with z | ⟨q, hq, z⟩
    · have hp14 := (h2 p hp).1
      exact absurd (ch.2.symm.trans z) (sy_nm (by omega))
    · have := be r q hr hq z ch
      omega
  have nb : ∀ r q, r < c → a3 (o r) = nI (o q) → ¬ sy_ch a3 a10 (o p) (o r) → q ≠ p := by
    intro r q hr e ch e2
    rw [e2] at e
    exact ch ⟨(h2 r hr).2.2, e⟩
  have F5 : ∀ r, r < c → r ≠ p → a3' (o r) = -1 ∨ ∃ q, q < r ∧ q ≠ p ∧ a3' (o r) = nI (o q) := by
    intro r hr hn
    by_cases ch : sy_ch a3 a10 (o p) (o r)
    · rw [(D (o r) (h2 r hr).1 ch).1]
      have l := lt r hr ch
      rcases h5 p hp with z | ⟨q, hq, z⟩
      · exact Or.inl z
      · exact Or.inr ⟨q, by omega, by omega, z⟩
    · rw [(E (o r) (h2 r hr).1 ch).1]
      rcases h5 r hr with z | ⟨q, hq, z⟩
      · exact Or.inl z
      · exact Or.inr ⟨q, hq, nb r q hr z ch, z⟩
  have F6 : ∀ r f, r < c → f < 16 → sy_bt (a5' (o r)) f = true → sy_bt (a4' (o r)) f = true := by
    intro r f hr hf
    have k := h6 r f hr hf
    by_cases ch : sy_ch a3 a10 (o p) (o r)
    · obtain ⟨_, d4, d5, _⟩ := D (o r) (h2 r hr).1 ch
      rw [d4, d5, sy_or, sy_or, sy_and, sy_ms_bt _ _ _ hf]
      revert k
      cases sy_bt (a5 (o r)) f <;> cases sy_bt (a4 (o r)) f <;> cases sy_bt (a4 (o p)) f <;> cases sy_bt (a5 (o p)) f <;> decide
    · obtain ⟨_, d4, d5, _⟩ := E (o r) (h2 r hr).1 ch
      rw [d4, d5]
      exact k
  have F7 : ∀ r f, r < c → f < 16 → sy_bt (a4' (o r)) f = true → V r f = sy_ow a5' a6' (o r) f := by
    intro r f hr hf
    by_cases ch : sy_ch a3 a10 (o p) (o r)
    · obtain ⟨_, d4, d5, d6⟩ := D (o r) (h2 r hr).1 ch
      unfold sy_ow
      rw [d4, d5, d6 f hf, sy_or, sy_or, sy_and, sy_ms_bt _ _ _ hf]
      intro z
      by_cases e : sy_bt (a4 (o r)) f = true
      · rw [e]
        have k := h7 r f hr hf e
        unfold sy_ow at k
        rw [k]
        cases sy_bt (a4 (o p)) f <;> cases sy_bt (a5 (o p)) f <;> cases sy_bt (a5 (o r)) f <;> rfl
      · have e' := sy_nf e
        rw [e'] at z
        have e2 : sy_bt (a4 (o p)) f = true := by
          revert z
          cases sy_bt (a4 (o p)) f <;> decide
        have e3 : sy_bt (a5 (o r)) f = false := sy_nf (fun y => e (h6 r f hr hf y))
        rw [e', e2, e3]
        obtain ⟨q, hq, y, y2⟩ := h8 r f hr hf e'
        rw [y2, be r q hr hq y ch, h7 p f hp hf e2]
        unfold sy_ow
        cases sy_bt (a5 (o p)) f <;> rfl
    · obtain ⟨_, d4, d5, d6⟩ := E (o r) (h2 r hr).1 ch
      unfold sy_ow
      rw [d4, d5, d6 f hf]
      exact h7 r f hr hf
  have F8 : ∀ r f, r < c → r ≠ p → f < 16 → sy_bt (a4' (o r)) f = false → ∃ q, q < r ∧ q ≠ p ∧ a3' (o r) = nI (o q) ∧ V r f = V q f := by
    intro r f hr hn hf
    by_cases ch : sy_ch a3 a10 (o p) (o r)
    · obtain ⟨d3, d4, _, _⟩ := D (o r) (h2 r hr).1 ch
      rw [d3, d4, sy_or]
      intro z
      obtain ⟨z1, z2⟩ := Bool.or_eq_false_iff.mp z
      obtain ⟨q, hq, y, y2⟩ := h8 r f hr hf z1
      have e := be r q hr hq y ch
      subst e
      obtain ⟨q', hq', x, x2⟩ := h8 q f hp hf z2
      exact ⟨q', by omega, by omega, x, y2.trans x2⟩
    · obtain ⟨d3, d4, _, _⟩ := E (o r) (h2 r hr).1 ch
      rw [d3, d4]
      intro z
      obtain ⟨q, hq, y, y2⟩ := h8 r f hr hf z
      exact ⟨q, hq, nb r q hr y ch, y, y2⟩
  refine ⟨by omega, ?_, ?_, ?_, ?_, ?_, ?_, ?_, ?_⟩
  · intro q hq
    have hr := sy_sh_lt hp hq
    obtain ⟨k1, k2, k3⟩ := h2 _ hr
    dsimp only
    rw [H2 q hq, pk_un (on _ hr sy_sh_ne)]
    exact ⟨k1, k2, k3⟩
  · intro q r hq hr e
    exact sy_sh_inj (h3 _ _ (sy_sh_lt hp hq) (sy_sh_lt hp hr) e)
  · intro t ht hn
    by_cases e : t = o p
    · rw [e, pk_us] at hn
      exact absurd rfl hn
    · rw [pk_un e] at hn
      obtain ⟨r, hr, hh⟩ := h4 t ht hn
      obtain ⟨q, hq, hh2⟩ := sy_sh_on hr (fun z => e (by rw [← hh, z])) hp
      exact ⟨q, hq, by dsimp only; rw [hh2]; exact hh⟩
  · intro q hq
    have hr := sy_sh_lt hp hq
    rcases F5 _ hr sy_sh_ne with z | ⟨r, h, n, z⟩
    · exact Or.inl z
    · obtain ⟨q', hq', e⟩ := sy_sh_on (c := c) (by omega) n hp
      exact Or.inr ⟨q', sy_sh_mono (by rw [e]; exact h), by dsimp only; rw [e]; exact z⟩
  · intro q f hq hf
    exact F6 _ f (sy_sh_lt hp hq) hf
  · intro q f hq hf
    exact F7 _ f (sy_sh_lt hp hq) hf
  · intro q f hq hf z
    have hr := sy_sh_lt hp hq
    obtain ⟨r, h, n, y, y2⟩ := F8 _ f hr sy_sh_ne hf z
    obtain ⟨q', hq', e⟩ := sy_sh_on (c := c) (by omega) n hp
    exact ⟨q', sy_sh_mono (by rw [e]; exact h), by dsimp only; rw [e]; exact y, by dsimp only; rw [e]; exact y2⟩
  · intro q f hq hf
    exact h9 _ f (sy_sh_lt hp hq) hf
end
section
/-! reading walks -/
theorem sy_at (a : Nat → Int32) {n : Nat} (h : n < 2 ^ 31) : a (nI n).toNatClampNeg = a n := by rw [nI_clamp h]
theorem sy_ix (h f : Nat) : (16 : Int32) * nI h + nI f = nI (16 * h + f) := by rw [show (16 : Int32) = nI 16 from rfl, pk_mul, nI_add]
theorem sy_hz {post : Int32 → Prop} {x : Int32} {f : Nat} (hf : f < 16) (h : post (sy_z (sy_bt x f))) : wpX_has post () x (nI f) := by
  cases hb : sy_bt x f
  · rw [hb] at h
    exact br_f (by rw [sy_bit x hf, hb]; decide) h
  · rw [hb] at h
    exact br_t (by rw [sy_bit x hf, hb]; rfl) h
theorem sy_h1 {post : Int32 → Prop} {x : Int32} {f : Nat} (hf : f < 16) (hb : sy_bt x f = true) (h : post 1) : wpX_has post () x (nI f) := br_t (by rw [sy_bit x hf, hb]; rfl) h
theorem sy_h0 {post : Int32 → Prop} {x : Int32} {f : Nat} (hf : f < 16) (hb : sy_bt x f = false) (h : post 0) : wpX_has post () x (nI f) := br_f (by rw [sy_bit x hf, hb]; decide) h
theorem sy_p1 {post : Int32 → Prop} {lm td : Int32} {a1 a2 a3 a4 a5 a6 a7 a8 a9 a10 a11 : Nat → Int32} {c p : Nat} (hc : c ≤ 14) (hp : p < c) (h : post 1) : wpX_isPoint post (lm, nI c, td, a1, a2, a3, a4, a5, a6, a7, a8, a9, a10, a11) (nI p) := br_f (nI_pos (by omega)) (br_f (nI_ge hp (by omega)) h)
theorem sy_p0 {post : Int32 → Prop} {lm td : Int32} {a1 a2 a3 a4 a5 a6 a7 a8 a9 a10 a11 : Nat → Int32} {c p : Nat} (hp : c ≤ p) (hq : p < 16) (h : post 0) : wpX_isPoint post (lm, nI c, td, a1, a2, a3, a4, a5, a6, a7, a8, a9, a10, a11) (nI p) := br_f (nI_pos (by omega)) (br_t (nI_le hp (by omega)) h)
theorem sy_f1 {post : Int32 → Prop} {f : Nat} (hf : f < 16) (h : post 1) : wpX_isFile post () (nI f) := br_f (nI_pos (by omega)) (br_f (nI_nlt (a := 15) (by omega) (by omega)) h)
theorem sy_hold5 {c : Nat} {o : Nat → Nat} {V : Nat → Nat → Option Int32} {f : Nat} {lm ct td : Int32} {a1 a2 a3 a4 a5 a6 a7 a8 a9 a10 a11 : Nat → Int32} (I : sy_I c o V lm a1 a2 a3 a4 a5 a6 a9 a10) (hf : f < 16) : ∀ p, p < c → ∀ k, k + p < 14 → ∃ h, h < 14 ∧ V p f = sy_ow a5 a6 h f ∧ ∃ n, ∀ post : Int32 → Prop, post (nI h) → wX_holder_5 post (nI f) lm ct td a1 a2 a3 a4 a5 a6 a7 a8 a9 a10 a11 n (nI (o p)) (nI k) := by
  obtain ⟨h1, h2, h3, h4, h5, h6, h7, h8, h9⟩ := I
  intro p
  induction p using Nat.strongRecOn with
  | _ p ih =>
    intro hp k hk
    have hop := (h2 p hp).1
    by_cases hb : sy_bt (a4 (o p)) f = true
    · refine ⟨o p, hop, h7 p f hp hf hb, 0 + 1, fun post hpo => ?_⟩
      refine br_f (nI_ge (b := 14) (by omega) (by omega)) ⟨pk_in (o p) 14 hop, sy_h1 hf ?_ (br_f (by decide) hpo)⟩
      rw [sy_at a4 (by omega)]
      exact hb
    · have hb' := sy_nf hb
      obtain ⟨q, hq, e, ev⟩ := h8 p f hp hf hb'
      obtain ⟨h, hh, ew, n, hn⟩ := ih q hq (by omega) (k + 1) (by omega)
      have hoq := (h2 q (by omega)).1
      refine ⟨h, hh, ev.trans ew, n + 1, fun post hpo => ?_⟩
      refine br_f (nI_ge (b := 14) (by omega) (by omega)) ⟨pk_in (o p) 14 hop, sy_h0 hf ?_ (br_t rfl ⟨pk_in (o p) 14 hop, br_f ?_ ⟨pk_in (o p) 14 hop, nm_r (e' := nI (o q)) ?_ (nm_r (nI_1 k) (hn post hpo))⟩⟩)⟩
      · rw [sy_at a4 (by omega)]
        exact hb'
      · rw [sy_at a3 (by omega), e]
        exact sy_nm (by omega)
      · rw [sy_at a3 (by omega)]
        exact e
theorem sy_hold {c : Nat} {o : Nat → Nat} {V : Nat → Nat → Option Int32} {p f : Nat} {lm : Int32} {a1 a2 a3 a4 a5 a6 a9 a10 : Nat → Int32} (I : sy_I c o V lm a1 a2 a3 a4 a5 a6 a9 a10) (hp : p < c) (hf : f < 16) (ct td : Int32) (a7 a8 a11 : Nat → Int32) : ∃ h, h < 14 ∧ V p f = sy_ow a5 a6 h f ∧ ∀ post : Int32 → Prop, post (nI h) → wpX_holder post (lm, ct, td, a1, a2, a3, a4, a5, a6, a7, a8, a9, a10, a11) (nI (o p)) (nI f) := by
  have hc := I.1
  obtain ⟨h, hh, ev, n, hn⟩ := sy_hold5 (ct := ct) (td := td) (a7 := a7) (a8 := a8) (a11 := a11) I hf p hp 0 (by omega)
  exact ⟨h, hh, ev, fun post hpo => Exists.intro n (hn post hpo)⟩
theorem sy_a2 {c : Nat} {o : Nat → Nat} {V : Nat → Nat → Option Int32} {p : Nat} {lm : Int32} {a1 a2 a3 a4 a5 a6 a9 a10 : Nat → Int32} (I : sy_I c o V lm a1 a2 a3 a4 a5 a6 a9 a10) (hp : p < c) : a2 (nI p).toNatClampNeg = nI (o p) := by
  have hc := I.1
  rw [sy_at a2 (by omega)]
  exact (I.2.1 p hp).2.1
theorem sy_vlS (b : Bool) (x : Int32) : (sy_vl b x).isSome = b := by cases b <;> rfl
theorem sy_vlD (b : Bool) (x : Int32) : (sy_vl b x).getD 0 = if b = true then x else 0 := by cases b <;> rfl
theorem sy_there {c : Nat} {o : Nat → Nat} {V : Nat → Nat → Option Int32} {p f : Nat} {lm td : Int32} {a1 a2 a3 a4 a5 a6 a7 a8 a9 a10 a11 : Nat → Int32} {post : Int32 → Prop} (I : sy_I c o V lm a1 a2 a3 a4 a5 a6 a9 a10) (hp : p < c) (hf : f < 16) (h : post (sy_z (V p f).isSome)) : wpX_there post (lm, nI c, td, a1, a2, a3, a4, a5, a6, a7, a8, a9, a10, a11) (nI p) (nI f) := by
  have hc := I.1
  obtain ⟨s, hs, ev, run⟩ := sy_hold I hp hf (nI c) td a7 a8 a11
  unfold wpX_there
  refine sy_p1 hc hp (br_f (by decide) (sy_f1 hf (br_f (by decide) ⟨pk_in p 14 (by omega), ?_⟩)))
  rw [sy_a2 I hp]
  refine run _ ⟨pk_in s 14 hs, ?_⟩
  rw [sy_bit _ hf, sy_at a5 (by omega)]
  rw [ev] at h
  unfold sy_ow at h
  rw [sy_vlS] at h
  exact h
theorem sy_content {c : Nat} {o : Nat → Nat} {V : Nat → Nat → Option Int32} {p f : Nat} {lm td : Int32} {a1 a2 a3 a4 a5 a6 a7 a8 a9 a10 a11 : Nat → Int32} {post : Int32 → Prop} (I : sy_I c o V lm a1 a2 a3 a4 a5 a6 a9 a10) (hp : p < c) (hf : f < 16) (h : post ((V p f).getD 0)) : wpX_content post (lm, nI c, td, a1, a2, a3, a4, a5, a6, a7, a8, a9, a10, a11) (nI p) (nI f) := by
  have hc := I.1
  obtain ⟨s, hs, ev, run⟩ := sy_hold I hp hf (nI c) td a7 a8 a11
  unfold wpX_content
  refine sy_p1 hc hp (br_f (by decide) (sy_f1 hf (br_f (by decide) ⟨pk_in p 14 (by omega), ?_⟩)))
  rw [sy_a2 I hp]
  rw [ev] at h
  unfold sy_ow at h
  rw [sy_vlD] at h
  refine run _ ⟨pk_in s 14 hs, ?_⟩
  rw [sy_at a5 (by omega)]
  cases hb : sy_bt (a5 s) f
  · rw [hb] at h
    exact sy_h0 hf hb (br_t rfl h)
  · rw [hb] at h
    refine sy_h1 hf hb (br_f (by decide) ⟨?_, ?_⟩)
    · rw [sy_ix]
      exact pk_in (16 * s + f) 224 (by omega)
    · rw [sy_ix, sy_at a6 (by omega)]
      exact h
theorem sy_liveT {f : Nat} {lm ct td : Int32} {a1 a2 a3 a4 a5 a6 a7 a8 a9 a10 a11 : Nat → Int32} {post : Int32 → Prop} (hf : f < 16) (h : post (sy_z (sy_lv lm a1 f).isSome)) : wpX_liveThere post (lm, ct, td, a1, a2, a3, a4, a5, a6, a7, a8, a9, a10, a11) (nI f) := by
  unfold wpX_liveThere
  refine sy_f1 hf (br_f (by decide) ?_)
  unfold sy_lv at h
  rw [sy_vlS] at h
  rw [sy_bit _ hf]
  exact h
theorem sy_live {f : Nat} {lm ct td : Int32} {a1 a2 a3 a4 a5 a6 a7 a8 a9 a10 a11 : Nat → Int32} {post : Int32 → Prop} (hf : f < 16) (h : post ((sy_lv lm a1 f).getD 0)) : wpX_live post (lm, ct, td, a1, a2, a3, a4, a5, a6, a7, a8, a9, a10, a11) (nI f) := by
  unfold wpX_live
  unfold sy_lv at h
  rw [sy_vlD] at h
  refine sy_f1 hf (br_f (by decide) ?_)
  cases hb : sy_bt lm f
  · rw [hb] at h
    exact sy_h0 hf hb (br_t rfl h)
  · rw [hb] at h
    refine sy_h1 hf hb (br_f (by decide) ⟨pk_in f 16 hf, ?_⟩)
    rw [sy_at a1 (by omega)]
    exact h
theorem sy_holds {c : Nat} {o : Nat → Nat} {V : Nat → Nat → Option Int32} {p : Nat} {lm td : Int32} {a1 a2 a3 a4 a5 a6 a7 a8 a9 a10 a11 : Nat → Int32} {mm mc mt : Int32} {b1 b2 b3 b4 b5 b6 b7 b8 b9 b10 b11 : Nat → Int32} {post : Int32 → Prop} (I : sy_I c o V lm a1 a2 a3 a4 a5 a6 a9 a10) (hp : p < c) (hv : ∀ f, f < 16 → V p f = sy_lv mm b1 f) (h : post 1) :
    wpL_holds post (lm, nI c, td, a1, a2, a3, a4, a5, a6, a7, a8, a9, a10, a11, mm, mc, mt, b1, b2, b3, b4, b5, b6, b7, b8, b9, b10, b11) (nI p) :=
  pk_loop (σ := Unit) (fun n i _ => wL_holds_2 post (nI p) lm (nI c) td a1 a2 a3 a4 a5 a6 a7 a8 a9 a10 a11 mm mc mt b1 b2 b3 b4 b5 b6 b7 b8 b9 b10 b11 n (nI i)) (fun _ _ => True) 16 0 () (by omega) trivial
    (fun n _ _ => pk_le 16 16 (fun _ => h) (fun z => absurd z (by omega)))
    (fun n i _ hi _ hw => pk_le 16 i (fun z => absurd z (by omega)) (fun _ => sy_there I hp hi (sy_liveT hi (br_t (by rw [hv i hi]) (sy_content I hp hi (sy_live hi (br_t (by rw [hv i hi]) (nm_r (nI_1 i) (hw () trivial)))))))))
theorem sy_isL {c : Nat} {o : Nat → Nat} {V : Nat → Nat → Option Int32} {p f : Nat} {lm ct td : Int32} {a1 a2 a3 a4 a5 a6 a7 a8 a9 a10 a11 : Nat → Int32} {post : Int32 → Prop} (I : sy_I c o V lm a1 a2 a3 a4 a5 a6 a9 a10) (hp : p < c) (hf : f < 16) (h1 : V p f = sy_lv lm a1 f → post 1) (h0 : ¬ V p f = sy_lv lm a1 f → post 0) : wpX_isLive post (lm, ct, td, a1, a2, a3, a4, a5, a6, a7, a8, a9, a10, a11) (nI (o p)) (nI f) := by
  obtain ⟨s, hs, ev, run⟩ := sy_hold I hp hf ct td a7 a8 a11
  have key : V p f = sy_lv lm a1 f ↔ sy_bt (a5 s) f = sy_bt lm f ∧ (sy_bt lm f = true → a6 (16 * s + f) = a1 f) := by
    rw [ev]
    exact sy_vl_eq
  unfold wpX_isLive
  refine run _ ⟨pk_in s 14 hs, sy_hz hf (sy_hz hf ?_)⟩
  rw [sy_at a5 (by omega), sy_ix, sy_at a6 (by omega), sy_at a1 (by omega)]
  refine br_c (fun e => sy_hz hf (br_c (fun z => h1 (key.mpr ⟨sy_ze.mp e, fun y => ?_⟩)) (fun z => ⟨pk_in (16 * s + f) 224 (by omega), pk_in f 16 hf, br_c (fun w => h1 (key.mpr ⟨sy_ze.mp e, fun _ => w⟩)) (fun w => h0 (fun t => w ((key.mp t).2 (sy_nt (fun y => z (sy_z0.mpr y))))))⟩))) (fun e => h0 (fun t => e (sy_ze.mpr (key.mp t).1)))
  rw [y] at z
  exact absurd z (by decide)
theorem sy_since {c : Nat} {o : Nat → Nat} {V : Nat → Nat → Option Int32} {p : Nat} {lm td : Int32} {a1 a2 a3 a4 a5 a6 a7 a8 a9 a10 a11 : Nat → Int32} {post : Int32 → Prop} (I : sy_I c o V lm a1 a2 a3 a4 a5 a6 a9 a10) (hp : p < c) (hv : ∀ f, f < 16 → V p f = sy_lv lm a1 f) (h : post 0) : wpX_changedSince post (lm, nI c, td, a1, a2, a3, a4, a5, a6, a7, a8, a9, a10, a11) (nI p) := by
  have hc := I.1
  have ho := (I.2.1 p hp).1
  unfold wpX_changedSince
  refine sy_p1 hc hp (br_f (by decide) ⟨pk_in p 14 (by omega), nm_r (sy_a2 I hp) ?_⟩)
  refine pk_loop (σ := Unit) (fun n i _ => wX_changedSince_22 post (nI (o p)) lm (nI c) td a1 a2 a3 a4 a5 a6 a7 a8 a9 a10 a11 n 0 (nI i)) (fun _ _ => True) 16 0 () (by omega) trivial
    (fun n _ _ => pk_le 16 16 (fun _ => h) (fun z => absurd z (by omega)))
    (fun n i _ hi _ hw => pk_le 16 i (fun z => absurd z (by omega)) (fun _ => ⟨pk_in (o p) 14 ho, sy_hz hi (br_c (fun _ => nm_r (nI_1 i) (hw () trivial)) (fun _ => sy_isL I hp hi (fun _ => br_f (by decide) (nm_r (nI_1 i) (hw () trivial))) (fun z => absurd (hv i hi) z)))⟩))
end
section
/-! walks that change the live set -/
theorem sy_set77 (x4 : Int32) (lm ct td : Int32) (a1 a2 a3 a4 a5 a6 a7 a8 a9 a10 a11 : Nat → Int32) : ∃ r : Nat → Int32, (∀ j, j < 14 → r j = a9 j ||| x4) ∧ ∃ n, ∀ post : St1 → Prop, post (lm, ct, td, a1, a2, a3, a4, a5, a6, a7, a8, r, a10, a11) → wX_setLive_77 post x4 lm ct td n 0 a1 a2 a3 a4 a5 a6 a7 a8 a9 a10 a11 :=
  sy_lp (fun (po : St1 → Prop) n i s => wX_setLive_77 po x4 lm ct td n (nI i) a1 a2 a3 a4 a5 a6 a7 a8 s a10 a11) (fun po r => po (lm, ct, td, a1, a2, a3, a4, a5, a6, a7, a8, r, a10, a11))
    (fun i s => (∀ j, j < i → s j = a9 j ||| x4) ∧ (∀ j, i ≤ j → s j = a9 j)) (fun r => ∀ j, j < 14 → r j = a9 j ||| x4) 14
    (fun s hI => ⟨s, hI.1, fun po n k => pk_le 14 14 (fun _ => k) (fun z => absurd z (by omega))⟩)
    (fun i s hi hI => ⟨upd s i (s i ||| x4), ⟨fun j hj => by
        by_cases e : j = i
        · rw [e, pk_us, hI.2 i (by omega)]
        · rw [pk_un e]
          exact hI.1 j (by omega), fun j hj => by
        rw [pk_un (by omega)]
        exact hI.2 j (by omega)⟩, fun po n k => pk_le 14 i (fun z => absurd z (by omega)) (fun _ => ⟨pk_in i 14 hi, pk_in i 14 hi, nm_r (by rw [nI_clamp (by omega)]) (nm_r (nI_1 i) k)⟩)⟩)
    14 0 a9 (by omega) ⟨fun j hj => absurd hj (by omega), fun _ _ => rfl⟩
/-- the pure side of a change -/
theorem sy_setP {f : Nat} (hf : f < 16) (b : Bool) (x y lm lm' : Int32) (a1 a9 a9' : Nat → Int32) (hy : b = true → y = x) (hl : ∀ g, g < 16 → sy_bt lm' g = if g = f then b else sy_bt lm g)
    (h9 : ∀ j, j < 14 → a9' j = a9 j ||| ((1 : Int32) <<< (nI f &&& 31))) :
    (∀ g, g < 16 → sy_lv lm' (upd a1 f y) g = if g = f then sy_vl b x else sy_lv lm a1 g) ∧ sy_R lm lm' a1 (upd a1 f y) a9 a9' := by
  have L : ∀ g, g < 16 → sy_lv lm' (upd a1 f y) g = if g = f then sy_vl b x else sy_lv lm a1 g := by
    intro g hg
    unfold sy_lv
    rw [hl g hg]
    by_cases e : g = f
    · rw [if_pos e, if_pos e, e, pk_us]
      exact sy_vl_eq.mpr ⟨rfl, hy⟩
    · rw [if_neg e, if_neg e, pk_un e]
  refine ⟨L, fun j g hj hg hb => ?_⟩
  rw [h9 j hj, sy_or, sy_bit1 f hf g hg] at hb
  obtain ⟨e1, e2⟩ := Bool.or_eq_false_iff.mp hb
  have e3 : ¬ g = f := of_decide_eq_false e2
  refine ⟨e1, ?_⟩
  rw [L g hg, if_neg e3]
theorem sy_set {f : Nat} (hf : f < 16) (b : Bool) (x : Int32) (lm ct td : Int32) (a1 a2 a3 a4 a5 a6 a7 a8 a9 a10 a11 : Nat → Int32) : ∃ lm' a1' a9', (∀ g, g < 16 → sy_lv lm' a1' g = if g = f then sy_vl b x else sy_lv lm a1 g) ∧ sy_R lm lm' a1 a1' a9 a9' ∧
    ∀ post : St1 → Prop, post (lm', ct, td, a1', a2, a3, a4, a5, a6, a7, a8, a9', a10, a11) → wpX_setLive post (lm, ct, td, a1, a2, a3, a4, a5, a6, a7, a8, a9, a10, a11) (nI f) (sy_z b) x := by
  by_cases same : sy_bt lm f = b ∧ (b = true → a1 f = x)
  · refine ⟨lm, a1, a9, ?_, sy_R_refl lm a1 a9, fun post h => ?_⟩
    · intro g hg
      by_cases e : g = f
      · rw [if_pos e, e]
        exact sy_vl_eq.mpr same
      · rw [if_neg e]
    · unfold wpX_setLive
      refine sy_hz hf (br_t (sy_ze.mpr same.1) ?_)
      cases hb : b
      · exact br_t rfl h
      · refine br_f (by decide) ⟨pk_in f 16 hf, br_t ?_ h⟩
        rw [sy_at a1 (by omega)]
        exact same.2 hb
  · have go : ∀ post : St1 → Prop, wX_setLive_27 post (nI f) (sy_z b) x lm ct td a1 a2 a3 a4 a5 a6 a7 a8 a9 a10 a11 → wpX_setLive post (lm, ct, td, a1, a2, a3, a4, a5, a6, a7, a8, a9, a10, a11) (nI f) (sy_z b) x := by
      intro post h
      unfold wpX_setLive
      refine sy_hz hf (br_c (fun e => ?_) (fun _ => h))
      have e' := sy_ze.mp e
      refine br_c (fun z => ?_) (fun z => ⟨pk_in f 16 hf, br_f ?_ h⟩)
      · exact absurd ⟨e', fun y => absurd (sy_z0.mp z) (by rw [y]; decide)⟩ same
      · rw [sy_at a1 (by omega)]
        exact fun w => same ⟨e', fun _ => w⟩
    cases hb : b
    · obtain ⟨a9', h9, n, run⟩ := sy_set77 ((1 : Int32) <<< (nI f &&& 31)) (lm &&& (((1 : Int32) <<< (nI f &&& 31)) ^^^ (-1))) ct td (upd a1 f 0) a2 a3 a4 a5 a6 a7 a8 a9 a10 a11
      obtain ⟨P1, P2⟩ := sy_setP hf false x 0 lm (lm &&& (((1 : Int32) <<< (nI f &&& 31)) ^^^ (-1))) a1 a9 a9' (fun z => absurd z (by decide)) (by
        intro g hg
        rw [sy_and, sy_xor, sy_bit1 f hf g hg, sy_m1 g (by omega)]
        by_cases e : g = f
        · rw [if_pos e, decide_eq_true e]
          cases sy_bt lm g <;> rfl
        · rw [if_neg e, decide_eq_false e]
          cases sy_bt lm g <;> rfl) h9
      refine ⟨_, _, a9', P1, P2, fun post h => ?_⟩
      rw [hb] at go
      refine go post (nm_e (br_t rfl (br_t rfl ⟨pk_in f 16 hf, nm_r (e' := upd a1 f 0) (by rw [nI_clamp (by omega)]) ⟨n, run post h⟩⟩)))
    · obtain ⟨a9', h9, n, run⟩ := sy_set77 ((1 : Int32) <<< (nI f &&& 31)) (lm ||| ((1 : Int32) <<< (nI f &&& 31))) ct td (upd a1 f x) a2 a3 a4 a5 a6 a7 a8 a9 a10 a11
      obtain ⟨P1, P2⟩ := sy_setP hf true x x lm (lm ||| ((1 : Int32) <<< (nI f &&& 31))) a1 a9 a9' (fun _ => rfl) (by
        intro g hg
        rw [sy_or, sy_bit1 f hf g hg]
        by_cases e : g = f
        · rw [if_pos e, decide_eq_true e]
          cases sy_bt lm g <;> rfl
        · rw [if_neg e, decide_eq_false e]
          cases sy_bt lm g <;> rfl) h9
      refine ⟨_, _, a9', P1, P2, fun post h => ?_⟩
      rw [hb] at go
      refine go post (nm_e (br_f (by decide) (br_f (by decide) ⟨pk_in f 16 hf, nm_r (e' := upd a1 f x) (by rw [nI_clamp (by omega)]) ⟨n, run post h⟩⟩)))
theorem sy_put {f : Nat} (hf : f < 16) (x : Int32) (lm ct td : Int32) (a1 a2 a3 a4 a5 a6 a7 a8 a9 a10 a11 : Nat → Int32) : ∃ r lm' a1' a9', sy_R lm lm' a1 a1' a9 a9' ∧ ∀ post : Int32 → St1 → Prop, post r (lm', ct, td, a1', a2, a3, a4, a5, a6, a7, a8, a9', a10, a11) → wpX_put post (lm, ct, td, a1, a2, a3, a4, a5, a6, a7, a8, a9, a10, a11) (nI f) x := by
  obtain ⟨lm', a1', a9', _, R, run⟩ := sy_set hf true x lm ct td a1 a2 a3 a4 a5 a6 a7 a8 a9 a10 a11
  refine ⟨(lm >>> (nI f &&& 31)) &&& 1, lm', a1', a9', R, fun post h => ?_⟩
  unfold wpX_put
  exact sy_f1 hf (br_f (by decide) (nm_e (run _ h)))
theorem sy_delete {f : Nat} (hf : f < 16) (lm ct td : Int32) (a1 a2 a3 a4 a5 a6 a7 a8 a9 a10 a11 : Nat → Int32) : ∃ r lm' a1' a9', sy_R lm lm' a1 a1' a9 a9' ∧ ∀ post : Int32 → St1 → Prop, post r (lm', ct, td, a1', a2, a3, a4, a5, a6, a7, a8, a9', a10, a11) → wpX_delete post (lm, ct, td, a1, a2, a3, a4, a5, a6, a7, a8, a9, a10, a11) (nI f) := by
  obtain ⟨lm', a1', a9', _, R, run⟩ := sy_set hf false 0 lm ct td a1 a2 a3 a4 a5 a6 a7 a8 a9 a10 a11
  refine ⟨(lm >>> (nI f &&& 31)) &&& 1, lm', a1', a9', R, fun post h => ?_⟩
  unfold wpX_delete
  exact sy_f1 hf (br_f (by decide) (nm_e (run _ h)))
theorem sy_rename {f g : Nat} (hf : f < 16) (hg : g < 16) (lm ct td : Int32) (a1 a2 a3 a4 a5 a6 a7 a8 a9 a10 a11 : Nat → Int32) : ∃ r lm' a1' a9', sy_R lm lm' a1 a1' a9 a9' ∧ ∀ post : Int32 → St1 → Prop, post r (lm', ct, td, a1', a2, a3, a4, a5, a6, a7, a8, a9', a10, a11) → wpX_rename post (lm, ct, td, a1, a2, a3, a4, a5, a6, a7, a8, a9, a10, a11) (nI f) (nI g) := by
  by_cases e : f = g
  · refine ⟨-2, lm, a1, a9, sy_R_refl _ _ _, fun post h => ?_⟩
    unfold wpX_rename
    exact sy_f1 hf (br_f (by decide) (sy_f1 hg (br_f (by decide) (br_t (by rw [e]) h))))
  · have e' : ¬ nI f = nI g := fun z => e ((nI_eq (by omega) (by omega)).mp z)
    cases hb : sy_bt lm f
    · refine ⟨-3, lm, a1, a9, sy_R_refl _ _ _, fun post h => ?_⟩
      unfold wpX_rename
      exact sy_f1 hf (br_f (by decide) (sy_f1 hg (br_f (by decide) (br_f e' (sy_h0 hf hb (br_t rfl h))))))
    · obtain ⟨m1, b1, b9, _, R, run⟩ := sy_set hg true (a1 f) lm ct td a1 a2 a3 a4 a5 a6 a7 a8 a9 a10 a11
      obtain ⟨m2, c1, c9, _, R2, run2⟩ := sy_set hf false 0 m1 ct td b1 a2 a3 a4 a5 a6 a7 a8 b9 a10 a11
      refine ⟨0, m2, c1, c9, sy_R_trans R R2, fun post h => ?_⟩
      unfold wpX_rename
      refine sy_f1 hf (br_f (by decide) (sy_f1 hg (br_f (by decide) (br_f e' (sy_h1 hf hb (br_f (by decide) ⟨pk_in f 16 hf, ?_⟩))))))
      rw [sy_at a1 (by omega)]
      exact run _ (run2 _ h)
theorem sy_rewrite {f : Nat} (hf : f < 16) (x y : Int32) (lm ct td : Int32) (a1 a2 a3 a4 a5 a6 a7 a8 a9 a10 a11 : Nat → Int32) : ∃ r lm' a1' a9', sy_R lm lm' a1 a1' a9 a9' ∧ ∀ post : Int32 → St1 → Prop, post r (lm', ct, td, a1', a2, a3, a4, a5, a6, a7, a8, a9', a10, a11) → wpX_rewrite post (lm, ct, td, a1, a2, a3, a4, a5, a6, a7, a8, a9, a10, a11) (nI f) x y := by
  have lp := sy_lp (σ := Int32 × Int32 × (Nat → Int32) × (Nat → Int32)) (ρ := Int32 × Int32 × (Nat → Int32) × (Nat → Int32))
    (fun (po : Int32 → St1 → Prop) n i s => wX_rewrite_15 po x y n s.1 (nI i) s.2.1 ct td s.2.2.1 a2 a3 a4 a5 a6 a7 a8 s.2.2.2 a10 a11)
    (fun po r => po r.1 (r.2.1, ct, td, r.2.2.1, a2, a3, a4, a5, a6, a7, a8, r.2.2.2, a10, a11))
    (fun i s => sy_R lm s.2.1 a1 s.2.2.1 a9 s.2.2.2) (fun s => sy_R lm s.2.1 a1 s.2.2.1 a9 s.2.2.2) 16
    (fun s hI => ⟨s, hI, fun po n k => pk_le 16 16 (fun _ => k) (fun z => absurd z (by omega))⟩)
    (fun i s hi hI => by
      obtain ⟨d, m, b1, b9⟩ := s
      cases hb : sy_bt m i
      · exact ⟨(d, m, b1, b9), hI, fun po n k => pk_le 16 i (fun z => absurd z (by omega)) (fun _ => sy_h0 hi hb (br_t rfl (nm_r (nI_1 i) k)))⟩
      · obtain ⟨m2, c1, c9, _, R2, run2⟩ := sy_set hi true (x + nI i * y) m ct td b1 a2 a3 a4 a5 a6 a7 a8 b9 a10 a11
        exact ⟨(d + 1, m2, c1, c9), sy_R_trans hI R2, fun po n k => pk_le 16 i (fun z => absurd z (by omega)) (fun _ => sy_h1 hi hb (br_f (by decide) (run2 _ (nm_e (nm_r (nI_1 i) k)))))⟩)
    (16 - f) f (0, lm, a1, a9) (by omega) (sy_R_refl _ _ _)
  obtain ⟨⟨r, lm', a1', a9'⟩, R, n, run⟩ := lp
  refine ⟨r, lm', a1', a9', R, fun post h => ?_⟩
  unfold wpX_rewrite
  exact sy_f1 hf (br_f (by decide) ⟨n, run post h⟩)
theorem sy_bring {c : Nat} {o : Nat → Nat} {V : Nat → Nat → Option Int32} {p f : Nat} {lm ct td : Int32} {a1 a2 a3 a4 a5 a6 a7 a8 a9 a10 a11 : Nat → Int32} (I : sy_I c o V lm a1 a2 a3 a4 a5 a6 a9 a10) (hp : p < c) (hf : f < 16) : ∃ b lm' a1' a9', sy_R lm lm' a1 a1' a9 a9' ∧ (∀ g, g < 16 → sy_lv lm' a1' g = if g = f then V p f else sy_lv lm a1 g) ∧
    ∀ post : Int32 → St1 → Prop, post (sy_z b) (lm', ct, td, a1', a2, a3, a4, a5, a6, a7, a8, a9', a10, a11) → wpX_bring post (lm, ct, td, a1, a2, a3, a4, a5, a6, a7, a8, a9, a10, a11) (nI (o p)) (nI f) := by
  have ho := (I.2.1 p hp).1
  by_cases e : V p f = sy_lv lm a1 f
  · refine ⟨false, lm, a1, a9, sy_R_refl _ _ _, ?_, fun post h => ?_⟩
    · intro g hg
      by_cases eg : g = f
      · rw [if_pos eg, eg, e]
      · rw [if_neg eg]
    · unfold wpX_bring
      exact ⟨pk_in (o p) 14 ho, sy_hz hf (br_c (fun _ => h) (fun _ => sy_isL I hp hf (fun _ => br_f (by decide) h) (fun z => absurd e z)))⟩
  · obtain ⟨s, hs, ev, run⟩ := sy_hold I hp hf ct td a7 a8 a11
    obtain ⟨m1, b1, b9, L, R, run2⟩ := sy_set hf (sy_bt (a5 s) f) (a6 (16 * s + f)) lm ct td a1 a2 a3 a4 a5 a6 a7 a8 a9 a10 a11
    refine ⟨true, m1, b1, b9, R, ?_, fun post h => ?_⟩
    · intro g hg
      rw [L g hg, ev]
      rfl
    · unfold wpX_bring
      refine ⟨pk_in (o p) 14 ho, sy_hz hf (br_c (fun z => ?_) (fun _ => sy_isL I hp hf (fun z => absurd z e) (fun _ => br_t rfl (run _ ⟨pk_in s 14 hs, sy_hz hf ⟨?_, ?_⟩⟩))))⟩
      · rw [sy_at a9 (by omega)] at z
        exact absurd (I.2.2.2.2.2.2.2.2 p f hp hf (sy_z0.mp z)) e
      · rw [sy_ix]
        exact pk_in (16 * s + f) 224 (by omega)
      · rw [sy_ix, sy_at a5 (by omega), sy_at a6 (by omega)]
        exact run2 _ h
theorem sy_restore1 {c : Nat} {o : Nat → Nat} {V : Nat → Nat → Option Int32} {p : Nat} {lm td : Int32} {a1 a2 a3 a4 a5 a6 a7 a8 a9 a10 a11 : Nat → Int32} (I : sy_I c o V lm a1 a2 a3 a4 a5 a6 a9 a10) (hp : p < c) : ∃ (m : Nat) (lm' : Int32) (a1' a9' : Nat → Int32), m ≤ 16 ∧ sy_R lm lm' a1 a1' a9 a9' ∧ (∀ g, g < 16 → sy_lv lm' a1' g = V p g) ∧
    ∀ post : Int32 → St1 → Prop, post (nI m) (lm', nI c, td, a1', a2, a3, a4, a5, a6, a7, a8, a9', a10, a11) → wpX_restore post (lm, nI c, td, a1, a2, a3, a4, a5, a6, a7, a8, a9, a10, a11) (nI p) := by
  have hc := I.1
  have lp := sy_lp (σ := Nat × Int32 × (Nat → Int32) × (Nat → Int32)) (ρ := Nat × Int32 × (Nat → Int32) × (Nat → Int32))
    (fun (po : Int32 → St1 → Prop) n i s => wX_restore_14 po (nI p) n (nI s.1) (nI i) s.2.1 (nI c) td s.2.2.1 a2 a3 a4 a5 a6 a7 a8 s.2.2.2 a10 a11)
    (fun po r => po (nI r.1) (r.2.1, nI c, td, r.2.2.1, a2, a3, a4, a5, a6, a7, a8, r.2.2.2, a10, a11))
    (fun i s => s.1 ≤ i ∧ sy_R lm s.2.1 a1 s.2.2.1 a9 s.2.2.2 ∧ ∀ g, g < i → sy_lv s.2.1 s.2.2.1 g = V p g)
    (fun s => s.1 ≤ 16 ∧ sy_R lm s.2.1 a1 s.2.2.1 a9 s.2.2.2 ∧ ∀ g, g < 16 → sy_lv s.2.1 s.2.2.1 g = V p g) 16
    (fun s hI => ⟨s, hI, fun po n k => pk_le 16 16 (fun _ => k) (fun z => absurd z (by omega))⟩)
    (fun i s hi hI => by
      obtain ⟨d, m, b1, b9⟩ := s
      obtain ⟨hd, hR, hL⟩ := hI
      dsimp only at hd hR hL
      have I2 := sy_R_I I hR
      obtain ⟨b, m2, c1, c9, R2, L2, run2⟩ := sy_bring (ct := nI c) (td := td) (a7 := a7) (a8 := a8) (a11 := a11) I2 hp hi
      have hz : ∃ d', d' ≤ d + 1 ∧ nI d + sy_z b = nI d' := by
        cases b
        · exact ⟨d, by omega, by rw [show sy_z false = nI 0 from rfl, nI_add, Nat.add_zero]⟩
        · exact ⟨d + 1, by omega, nI_1 d⟩
      obtain ⟨d', hd', ed⟩ := hz
      refine ⟨(d', m2, c1, c9), ⟨by dsimp only; omega, sy_R_trans hR R2, ?_⟩, fun po n k => pk_le 16 i (fun z => absurd z (by omega)) (fun _ => ⟨pk_in p 14 (by omega), ?_⟩)⟩
      · intro g hg
        dsimp only
        rw [L2 g (by omega)]
        by_cases e : g = i
        · rw [if_pos e, e]
        · rw [if_neg e]
          exact hL g (by omega)
      · rw [sy_a2 I hp]
        exact run2 _ (nm_r ed (nm_r (nI_1 i) k)))
    16 0 (0, lm, a1, a9) (by omega) ⟨by omega, sy_R_refl _ _ _, fun g hg => absurd hg (by omega)⟩
  obtain ⟨⟨m, lm', a1', a9'⟩, ⟨hm, R, L⟩, n, run⟩ := lp
  refine ⟨m, lm', a1', a9', hm, R, L, fun post h => ?_⟩
  unfold wpX_restore
  exact sy_p1 hc hp (br_f (by decide) ⟨n, run post h⟩)
theorem sy_restoreFile {c : Nat} {o : Nat → Nat} {V : Nat → Nat → Option Int32} {p f : Nat} {lm td : Int32} {a1 a2 a3 a4 a5 a6 a7 a8 a9 a10 a11 : Nat → Int32} (I : sy_I c o V lm a1 a2 a3 a4 a5 a6 a9 a10) (hp : p < 16) (hf : f < 16) : ∃ r lm' a1' a9', sy_R lm lm' a1 a1' a9 a9' ∧ ∀ post : Int32 → St1 → Prop, post r (lm', nI c, td, a1', a2, a3, a4, a5, a6, a7, a8, a9', a10, a11) → wpX_restoreFile post (lm, nI c, td, a1, a2, a3, a4, a5, a6, a7, a8, a9, a10, a11) (nI p) (nI f) := by
  have hc := I.1
  by_cases e : p < c
  · obtain ⟨b, m2, c1, c9, R2, L2, run2⟩ := sy_bring (ct := nI c) (td := td) (a7 := a7) (a8 := a8) (a11 := a11) I e hf
    refine ⟨sy_z b, m2, c1, c9, R2, fun post h => ?_⟩
    unfold wpX_restoreFile
    refine sy_p1 hc e (br_f (by decide) (sy_f1 hf (br_f (by decide) ⟨pk_in p 14 (by omega), ?_⟩)))
    rw [sy_a2 I e]
    exact run2 _ h
  · refine ⟨-1, lm, a1, a9, sy_R_refl _ _ _, fun post h => ?_⟩
    unfold wpX_restoreFile
    exact sy_p0 (by omega) hp (br_t rfl h)
theorem sy_advance (x : Int32) (lm ct td : Int32) (a1 a2 a3 a4 a5 a6 a7 a8 a9 a10 a11 : Nat → Int32) : ∃ r td', ∀ post : Int32 → St1 → Prop, post r (lm, ct, td', a1, a2, a3, a4, a5, a6, a7, a8, a9, a10, a11) → wpX_advance post (lm, ct, td, a1, a2, a3, a4, a5, a6, a7, a8, a9, a10, a11) x := by
  by_cases e1 : x < 1
  · exact ⟨-1, td, fun post h => br_t e1 h⟩
  · by_cases e2 : x ≤ 60
    · by_cases e3 : td + x ≤ 5000
      · exact ⟨td + x, td + x, fun post h => br_f e1 (br_t e2 (br_t e3 (nm_e h)))⟩
      · exact ⟨-2, td, fun post h => br_f e1 (br_t e2 (br_f e3 h))⟩
    · exact ⟨-1, td, fun post h => br_f e1 (br_f e2 h)⟩
theorem sy_pin {c : Nat} {o : Nat → Nat} {V : Nat → Nat → Option Int32} {p : Nat} (x : Int32) {lm td : Int32} {a1 a2 a3 a4 a5 a6 a7 a8 a9 a10 a11 : Nat → Int32} (I : sy_I c o V lm a1 a2 a3 a4 a5 a6 a9 a10) (hp : p < 16) : ∃ r a8', ∀ post : Int32 → St1 → Prop, post r (lm, nI c, td, a1, a2, a3, a4, a5, a6, a7, a8', a9, a10, a11) → wpX_pin post (lm, nI c, td, a1, a2, a3, a4, a5, a6, a7, a8, a9, a10, a11) (nI p) x := by
  have hc := I.1
  by_cases e : p < c
  · have ho := (I.2.1 p e).1
    have hin : vp_in (a2 (nI p).toNatClampNeg) 14 := by
      rw [sy_a2 I e]
      exact pk_in (o p) 14 ho
    have go : ∀ z : Int32, ∃ a8', ∀ post : Int32 → St1 → Prop, post z (lm, nI c, td, a1, a2, a3, a4, a5, a6, a7, a8', a9, a10, a11) → wX_pin_29 post (nI p) x z lm (nI c) td a1 a2 a3 a4 a5 a6 a7 a8 a9 a10 a11 := by
      intro z
      by_cases e2 : x = 0
      · exact ⟨upd a8 (a2 (nI p).toNatClampNeg).toNatClampNeg 0, fun post h => And.intro (pk_in p 14 (by omega)) (br_t e2 ⟨hin, nm_e h⟩)⟩
      · exact ⟨upd a8 (a2 (nI p).toNatClampNeg).toNatClampNeg 1, fun post h => And.intro (pk_in p 14 (by omega)) (br_f e2 ⟨hin, nm_e h⟩)⟩
    by_cases e3 : a8 (a2 (nI p).toNatClampNeg).toNatClampNeg = 0
    · obtain ⟨a8', run⟩ := go 0
      refine ⟨0, a8', fun post h => ?_⟩
      unfold wpX_pin
      exact sy_p1 hc e (br_f (by decide) ⟨pk_in p 14 (by omega), hin, br_t e3 (run post h)⟩)
    · obtain ⟨a8', run⟩ := go 1
      refine ⟨1, a8', fun post h => ?_⟩
      unfold wpX_pin
      exact sy_p1 hc e (br_f (by decide) ⟨pk_in p 14 (by omega), hin, br_f e3 (run post h)⟩)
  · refine ⟨-1, a8, fun post h => ?_⟩
    unfold wpX_pin
    exact sy_p0 (by omega) hp (br_t rfl h)
end
section
/-! walks that store and drop points -/
theorem sy_free {c : Nat} {o : Nat → Nat} {V : Nat → Nat → Option Int32} {lm ct td : Int32} {a1 a2 a3 a4 a5 a6 a7 a8 a9 a10 a11 : Nat → Int32} (I : sy_I c o V lm a1 a2 a3 a4 a5 a6 a9 a10) (hc : c < 14) : ∃ s, s < 14 ∧ a10 s = 0 ∧ ∀ post : Int32 → Prop, post (nI s) → wpX_freeSlot post (lm, ct, td, a1, a2, a3, a4, a5, a6, a7, a8, a9, a10, a11) := by
  have ex : ∃ s, s < 14 ∧ a10 s = 0 := by
    apply Classical.byContradiction
    intro no
    have k := sy_pigeon c 14 o (fun s hs => I.2.2.2.1 s hs (fun z => no ⟨s, hs, z⟩))
    omega
  obtain ⟨s, ⟨hs, hz⟩, hm⟩ := pk_least (fun s => s < 14 ∧ a10 s = 0) ex
  refine ⟨s, hs, hz, fun post h => ?_⟩
  exact pk_loop (σ := Unit) (fun n i _ => wX_freeSlot_2 post lm ct td a1 a2 a3 a4 a5 a6 a7 a8 a9 a10 a11 n (nI i)) (fun _ _ => True) s 0 () (by omega) trivial
    (fun n _ _ => pk_le 14 s (fun z => absurd z (by omega)) (fun _ => ⟨pk_in s 14 hs, br_t (by rw [sy_at a10 (by omega)]; exact hz) h⟩))
    (fun n i _ hi _ hw => pk_le 14 i (fun z => absurd z (by omega)) (fun _ => ⟨pk_in i 14 (by omega), br_f (by rw [sy_at a10 (by omega)]; exact fun z => hm i hi ⟨by omega, z⟩) (nm_r (nI_1 i) (hw () trivial))⟩))
theorem sy_base25 {c : Nat} {o : Nat → Nat} {V : Nat → Nat → Option Int32} {lm ct td : Int32} {a1 a2 a3 a4 a5 a6 a7 a8 a9 a10 a11 : Nat → Int32} (I : sy_I c o V lm a1 a2 a3 a4 a5 a6 a9 a10) : ∀ p, p < c → ∃ q, q < c ∧ ∃ n, ∀ post : Int32 → Prop, post (nI (o q)) → wX_baseFor_25 post lm ct td a1 a2 a3 a4 a5 a6 a7 a8 a9 a10 a11 n (nI p) := by
  have hc := I.1
  intro p
  induction p with
  | zero =>
    intro hp
    refine ⟨0, hp, 0 + 1, fun post h => ?_⟩
    refine br_t (nI_le (a := 0) (b := 0) (by omega) (by omega)) ⟨pk_in 0 14 (by omega), ?_⟩
    rw [sy_a2 I hp]
    exact h
  | succ p ih =>
    intro hp
    have ho := (I.2.1 (p + 1) hp).1
    have hin : vp_in (a2 (nI (p + 1)).toNatClampNeg) 14 := by
      rw [sy_a2 I hp]
      exact pk_in (o (p + 1)) 14 ho
    by_cases e : a3 (a2 (nI (p + 1)).toNatClampNeg).toNatClampNeg = -1
    · refine ⟨p + 1, hp, 0 + 1, fun post h => ?_⟩
      refine br_f (nI_nle (by omega) (by omega)) ⟨pk_in (p + 1) 14 (by omega), hin, br_t e ⟨pk_in (p + 1) 14 (by omega), ?_⟩⟩
      rw [sy_a2 I hp]
      exact h
    · obtain ⟨q, hq, n, run⟩ := ih (by omega)
      exact ⟨q, hq, n + 1, fun post h => br_f (nI_nle (by omega) (by omega)) ⟨pk_in (p + 1) 14 (by omega), hin, br_f e (nm_r (pk_m1 p) (run post h))⟩⟩
theorem sy_base {c : Nat} {o : Nat → Nat} {V : Nat → Nat → Option Int32} {w : Nat} {lm td : Int32} {a1 a2 a3 a4 a5 a6 a7 a8 a9 a10 a11 : Nat → Int32} (I : sy_I c o V lm a1 a2 a3 a4 a5 a6 a9 a10) (hw : w < 3) : ∃ b : Int32, (b = -1 ∨ ∃ q, q < c ∧ b = nI (o q)) ∧ ∀ post : Int32 → Prop, post b → wpX_baseFor post (lm, nI c, td, a1, a2, a3, a4, a5, a6, a7, a8, a9, a10, a11) (nI w) := by
  have hc := I.1
  by_cases e0 : w = 0
  · subst e0
    exact ⟨-1, Or.inl rfl, fun post h => br_t rfl h⟩
  · have n0 : ¬ nI w = 0 := nI_ne0 (by omega) (by omega)
    by_cases ec : c = 0
    · subst ec
      exact ⟨-1, Or.inl rfl, fun post h => br_f n0 (br_t rfl h)⟩
    · have nc : ¬ nI c = 0 := nI_ne0 (by omega) (by omega)
      have e1 : nI c - 1 = nI (c - 1) := pk_sub (a := c) (b := 1) (by omega)
      by_cases e2 : w = 2
      · obtain ⟨q, hq, n, run⟩ := sy_base25 (ct := nI c) (td := td) (a7 := a7) (a8 := a8) (a11 := a11) I (c - 1) (by omega)
        subst e2
        exact ⟨nI (o q), Or.inr ⟨q, hq, rfl⟩, fun post h => br_f n0 (br_f nc (nm_r e1 (br_t rfl ⟨n, run post h⟩)))⟩
      · have n2 : ¬ nI w = 2 := fun z => e2 ((nI_eq (a := w) (b := 2) (by omega) (by omega)).mp z)
        refine ⟨nI (o (c - 1)), Or.inr ⟨c - 1, by omega, rfl⟩, fun post h => br_f n0 (br_f nc (nm_r e1 (br_f n2 ⟨pk_in (c - 1) 14 (by omega), ?_⟩)))⟩
        rw [sy_a2 I (show c - 1 < c by omega)]
        exact h
theorem sy_take83 {s c : Nat} (hs : s < 14) (hc : c < 14) {lm td : Int32} {a1 a2 a3 a4 a5 a6 a7 a8 a9 a10 a11 : Nat → Int32} : ∃ a6' : Nat → Int32, ((∀ f, f < 16 → sy_bt (a4 s) f = true → a6' (16 * s + f) = a1 f) ∧ (∀ j f, j < 14 → f < 16 → j ≠ s → a6' (16 * j + f) = a6 (16 * j + f))) ∧
    ∃ n, ∀ post : Int32 → St1 → Prop, post (nI c) (lm, nI (c + 1), td, a1, upd a2 c (nI s), a3, a4, a5, a6', upd a7 s td, upd a8 s 0, upd a9 s 0, upd a10 s 1, a11) → wX_take_83 post (nI s) lm (nI c) td n 0 a1 a2 a3 a4 a5 a6 a7 a8 a9 a10 a11 :=
  sy_lp (fun (po : Int32 → St1 → Prop) n i t => wX_take_83 po (nI s) lm (nI c) td n (nI i) a1 a2 a3 a4 a5 t a7 a8 a9 a10 a11)
    (fun po r => po (nI c) (lm, nI (c + 1), td, a1, upd a2 c (nI s), a3, a4, a5, r, upd a7 s td, upd a8 s 0, upd a9 s 0, upd a10 s 1, a11))
    (fun i t => (∀ f, f < i → sy_bt (a4 s) f = true → t (16 * s + f) = a1 f) ∧ (∀ j f, j < 14 → f < 16 → j ≠ s → t (16 * j + f) = a6 (16 * j + f)))
    (fun t => (∀ f, f < 16 → sy_bt (a4 s) f = true → t (16 * s + f) = a1 f) ∧ (∀ j f, j < 14 → f < 16 → j ≠ s → t (16 * j + f) = a6 (16 * j + f))) 16
    (fun t hI => ⟨t, hI, fun po n k => pk_le 16 16 (fun _ => ⟨pk_in s 14 hs, nm_r (e' := upd a7 s td) (by rw [nI_clamp (by omega)]) ⟨pk_in s 14 hs, nm_r (e' := upd a8 s 0) (by rw [nI_clamp (by omega)]) ⟨pk_in s 14 hs, nm_r (e' := upd a9 s 0) (by rw [nI_clamp (by omega)]) ⟨pk_in s 14 hs, nm_r (e' := upd a10 s 1) (by rw [nI_clamp (by omega)]) ⟨pk_in c 14 hc, nm_r (e' := upd a2 c (nI s)) (by rw [nI_clamp (by omega)]) (nm_r (nI_1 c) (by rw [nI_pred]; exact k))⟩⟩⟩⟩⟩) (fun z => absurd z (by omega))⟩)
    (fun i t hi hI => by
      have hx : vp_in ((16 : Int32) * nI s + nI i) 224 := by
        rw [sy_ix]
        exact pk_in (16 * s + i) 224 (by omega)
      cases hb : sy_bt (a4 s) i
      · refine ⟨upd t (16 * s + i) 0, ⟨fun f hf hz => ?_, fun j f hj hf hn => ?_⟩, fun po n k => pk_le 16 i (fun z => absurd z (by omega)) (fun _ => ⟨pk_in s 14 hs, sy_h0 hi (by rw [sy_at a4 (by omega)]; exact hb) (br_t rfl ⟨hx, nm_r (e' := upd t (16 * s + i) 0) (by rw [sy_ix, nI_clamp (by omega)]) (nm_r (nI_1 i) k)⟩)⟩)⟩
        · have hfi : f ≠ i := by
            intro e
            rw [e, hb] at hz
            exact absurd hz (by decide)
          rw [pk_un (by omega)]
          exact hI.1 f (by omega) hz
        · rw [pk_un (by omega)]
          exact hI.2 j f hj hf hn
      · refine ⟨upd t (16 * s + i) (a1 i), ⟨fun f hf hz => ?_, fun j f hj hf hn => ?_⟩, fun po n k => pk_le 16 i (fun z => absurd z (by omega)) (fun _ => ⟨pk_in s 14 hs, sy_h1 hi (by rw [sy_at a4 (by omega)]; exact hb) (br_f (by decide) ⟨pk_in i 16 hi, hx, nm_r (e' := upd t (16 * s + i) (a1 i)) (by rw [sy_ix, nI_clamp (by omega), nI_clamp (by omega)]) (nm_r (nI_1 i) k)⟩)⟩)⟩
        · by_cases e : f = i
          · rw [e, pk_us]
          · rw [pk_un (by omega)]
            exact hI.1 f (by omega) hz
        · rw [pk_un (by omega)]
          exact hI.2 j f hj hf hn)
    16 0 a6 (by omega) ⟨fun f hf => absurd hf (by omega), fun _ _ _ _ _ => rfl⟩
theorem sy_take62 {s c : Nat} (hs : s < 14) (hc : c < 14) (en : Int32) {lm td : Int32} {a1 a2 a3 a4 a5 a6 a7 a8 a9 a10 a11 : Nat → Int32} : ∃ a6' : Nat → Int32, ((∀ f, f < 16 → sy_bt en f = true → a6' (16 * s + f) = a1 f) ∧ (∀ j f, j < 14 → f < 16 → j ≠ s → a6' (16 * j + f) = a6 (16 * j + f))) ∧
    ∀ post : Int32 → St1 → Prop, post (nI c) (lm, nI (c + 1), td, a1, upd a2 c (nI s), a3, upd a4 s en, upd a5 s (lm &&& en), a6', upd a7 s td, upd a8 s 0, upd a9 s 0, upd a10 s 1, a11) → wX_take_62 post (nI s) en (nI s) lm (nI c) td a1 a2 a3 a4 a5 a6 a7 a8 a9 a10 a11 := by
  obtain ⟨a6', h, n, run⟩ := sy_take83 (lm := lm) (td := td) (a1 := a1) (a2 := a2) (a3 := a3) (a4 := upd a4 s en) (a5 := upd a5 s (lm &&& en)) (a6 := a6) (a7 := a7) (a8 := a8) (a9 := a9) (a10 := a10) (a11 := a11) hs hc
  rw [pk_us] at h
  refine ⟨a6', h, fun post k => ?_⟩
  refine And.intro (pk_in s 14 hs) (nm_r (e' := upd a4 s en) (by rw [nI_clamp (by omega)]) ⟨pk_in s 14 hs, pk_in s 14 hs, nm_r (e' := upd a5 s (lm &&& en)) ?_ ⟨n, run post k⟩⟩)
  rw [nI_clamp (by omega), pk_us]
theorem sy_take {c : Nat} {o : Nat → Nat} {V : Nat → Nat → Option Int32} {w : Nat} {lm td : Int32} {a1 a2 a3 a4 a5 a6 a7 a8 a9 a10 a11 : Nat → Int32} (I : sy_I c o V lm a1 a2 a3 a4 a5 a6 a9 a10) (hw : w < 3) :
    (∀ post : Int32 → St1 → Prop, post (-2) (lm, nI c, td, a1, a2, a3, a4, a5, a6, a7, a8, a9, a10, a11) → wpX_take post (lm, nI c, td, a1, a2, a3, a4, a5, a6, a7, a8, a9, a10, a11) (nI w)) ∨
    (∃ o' V' a2' a3' a4' a5' a6' a7' a8' a9' a10', sy_I (c + 1) o' V' lm a1 a2' a3' a4' a5' a6' a9' a10' ∧ (∀ q, q < c → V' q = V q) ∧ V' c = sy_lv lm a1 ∧
      ∀ post : Int32 → St1 → Prop, post (nI c) (lm, nI (c + 1), td, a1, a2', a3', a4', a5', a6', a7', a8', a9', a10', a11) → wpX_take post (lm, nI c, td, a1, a2, a3, a4, a5, a6, a7, a8, a9, a10, a11) (nI w)) := by
  have hc := I.1
  have w0 : ¬ nI w < 0 := nI_pos (by omega)
  have w2 : nI w ≤ 2 := nI_le (a := w) (b := 2) (by omega) (by omega)
  by_cases e : c = 14
  · refine Or.inl (fun post h => br_f w0 (br_t w2 (br_t ?_ h)))
    rw [e]
    rfl
  · have nc : ¬ nI c = 14 := fun z => e ((nI_eq (a := c) (b := 14) (by omega) (by omega)).mp z)
    obtain ⟨s, hs, hz, runF⟩ := sy_free (ct := nI c) (td := td) (a7 := a7) (a8 := a8) (a11 := a11) I (by omega)
    obtain ⟨b, hb, runB⟩ := sy_base (td := td) (a7 := a7) (a8 := a8) (a11 := a11) I hw
    have hen : ∃ en : Int32, ((b = -1 ∧ ∀ f, f < 16 → sy_bt en f = true) ∨ (∃ q, q < c ∧ b = nI (o q) ∧ en = a9 (o q))) ∧
        ∀ post : Int32 → St1 → Prop, wX_take_62 post (nI s) en (nI s) lm (nI c) td a1 a2 (upd a3 s b) a4 a5 a6 a7 a8 a9 a10 a11 → ((b = -1 → wX_take_62 post (nI s) 65535 (nI s) lm (nI c) td a1 a2 (upd a3 s b) a4 a5 a6 a7 a8 a9 a10 a11) ∧ (¬ b = -1 → (vp_in b 14 ∧ wX_take_62 post (nI s) (a9 b.toNatClampNeg) (nI s) lm (nI c) td a1 a2 (upd a3 s b) a4 a5 a6 a7 a8 a9 a10 a11))) := by
      rcases hb with e1 | ⟨q, hq, e1⟩
      · exact ⟨65535, Or.inl ⟨e1, sy_all⟩, fun post h => br_t e1 h⟩
      · have ho := (I.2.1 q hq).1
        subst e1
        refine ⟨a9 (o q), Or.inr ⟨q, hq, rfl, rfl⟩, fun post h => br_f (sy_nm (by omega)) ⟨pk_in (o q) 14 ho, ?_⟩⟩
        rw [sy_at a9 (by omega)]
        exact h
    obtain ⟨en, B, runE⟩ := hen
    obtain ⟨a6', ⟨C1, C2⟩, run⟩ := sy_take62 (lm := lm) (td := td) (a1 := a1) (a2 := a2) (a3 := upd a3 s b) (a4 := a4) (a5 := a5) (a6 := a6) (a7 := a7) (a8 := a8) (a9 := a9) (a10 := a10) (a11 := a11) hs (show c < 14 by omega) en
    refine Or.inr ⟨_, _, _, _, _, _, _, upd a7 s td, upd a8 s 0, _, _, sy_I_take I (by omega) hs hz B C1 C2, fun q hq => sy_vT2 (by omega), sy_vT1, fun post h => ?_⟩
    refine br_f w0 (br_t w2 (br_f nc (runF _ (runB _ ⟨pk_in s 14 hs, nm_r (e' := upd a3 s b) (by rw [nI_clamp (by omega)]) (runE post (run post h))⟩))))
end
section
/-! drop -/
abbrev sy_K9 : Type := Int32 → (Nat → Int32) → (Nat → Int32) → (Nat → Int32) → (Nat → Int32) → (Nat → Int32) → (Nat → Int32) → (Nat → Int32) → (Nat → Int32) → (Nat → Int32) → (Nat → Int32) → (Nat → Int32) → Prop
theorem sy_drop54 {s j : Nat} (hs : s < 14) (hj : j < 14) (hn : s ≠ j) (x1 ms : Int32) (lm ct td : Int32) (a1 a2 a3 a4 a5 a6 a7 a8 a9 a10 a11 : Nat → Int32) :
    ∃ t : Nat → Int32, ((∀ f, f < 16 → t (16 * j + f) = if sy_bt ms f = true then a6 (16 * s + f) else a6 (16 * j + f)) ∧ (∀ k f, k < 14 → f < 16 → k ≠ j → t (16 * k + f) = a6 (16 * k + f))) ∧
    ∃ n, ∀ po : (St1 → Prop) × sy_K9, po.2 (nI (j + 1)) a1 a2 (upd a3 j (a3 s)) (upd a4 j (a4 j ||| a4 s)) (upd a5 j (a5 j ||| (a5 s &&& ms))) t a7 a8 a9 a10 a11 → wX_drop_54 po.1 po.2 x1 (nI s) (nI j) ms lm ct td n 0 a1 a2 a3 a4 a5 a6 a7 a8 a9 a10 a11 :=
  sy_lp (fun (po : (St1 → Prop) × sy_K9) n i t => wX_drop_54 po.1 po.2 x1 (nI s) (nI j) ms lm ct td n (nI i) a1 a2 a3 a4 a5 t a7 a8 a9 a10 a11)
    (fun po t => po.2 (nI (j + 1)) a1 a2 (upd a3 j (a3 s)) (upd a4 j (a4 j ||| a4 s)) (upd a5 j (a5 j ||| (a5 s &&& ms))) t a7 a8 a9 a10 a11)
    (fun i t => (∀ f, f < 16 → t (16 * j + f) = if f < i ∧ sy_bt ms f = true then a6 (16 * s + f) else a6 (16 * j + f)) ∧ (∀ k f, k < 14 → f < 16 → k ≠ j → t (16 * k + f) = a6 (16 * k + f)))
    (fun t => (∀ f, f < 16 → t (16 * j + f) = if sy_bt ms f = true then a6 (16 * s + f) else a6 (16 * j + f)) ∧ (∀ k f, k < 14 → f < 16 → k ≠ j → t (16 * k + f) = a6 (16 * k + f))) 16
    (fun t hI => ⟨t, ⟨fun f hf => by
        rw [hI.1 f hf]
        by_cases e : sy_bt ms f = true
        · rw [if_pos ⟨hf, e⟩, if_pos e]
        · rw [if_neg (fun z => e z.2), if_neg e], hI.2⟩, fun po n k => pk_le 16 16 (fun _ => ⟨pk_in j 14 hj, pk_in s 14 hs, pk_in j 14 hj, nm_r (e' := upd a5 j (a5 j ||| (a5 s &&& ms))) (by rw [nI_clamp (by omega), nI_clamp (by omega)])
          ⟨pk_in j 14 hj, pk_in s 14 hs, pk_in j 14 hj, nm_r (e' := upd a4 j (a4 j ||| a4 s)) (by rw [nI_clamp (by omega), nI_clamp (by omega)])
          ⟨pk_in s 14 hs, pk_in j 14 hj, nm_r (e' := upd a3 j (a3 s)) (by rw [nI_clamp (by omega), nI_clamp (by omega)]) (nm_r (nI_1 j) k)⟩⟩⟩) (fun z => absurd z (by omega))⟩)
    (fun i t hi hI => by
      have hx : vp_in ((16 : Int32) * nI s + nI i) 224 := by
        rw [sy_ix]
        exact pk_in (16 * s + i) 224 (by omega)
      have hy : vp_in ((16 : Int32) * nI j + nI i) 224 := by
        rw [sy_ix]
        exact pk_in (16 * j + i) 224 (by omega)
      cases hb : sy_bt ms i
      · refine ⟨t, ⟨fun f hf => ?_, hI.2⟩, fun po n k => pk_le 16 i (fun z => absurd z (by omega)) (fun _ => sy_h0 hi hb (br_t rfl (nm_r (nI_1 i) k)))⟩
        rw [hI.1 f hf]
        by_cases e : f < i ∧ sy_bt ms f = true
        · rw [if_pos e, if_pos ⟨by omega, e.2⟩]
        · rw [if_neg e, if_neg]
          intro z
          have : f ≠ i := by
            intro e2
            rw [e2, hb] at z
            exact absurd z.2 (by decide)
          exact e ⟨by omega, z.2⟩
      · refine ⟨upd t (16 * j + i) (a6 (16 * s + i)), ⟨fun f hf => ?_, fun k f hk hf hkj => ?_⟩, fun po n k => pk_le 16 i (fun z => absurd z (by omega)) (fun _ => sy_h1 hi hb (br_f (by decide) ⟨hx, hy, nm_r (e' := upd t (16 * j + i) (a6 (16 * s + i))) ?_ (nm_r (nI_1 i) k)⟩))⟩
        · by_cases e : f = i
          · rw [e, pk_us, if_pos ⟨by omega, hb⟩]
          · rw [pk_un (by omega), hI.1 f hf]
            by_cases e2 : f < i ∧ sy_bt ms f = true
            · rw [if_pos e2, if_pos ⟨by omega, e2.2⟩]
            · rw [if_neg e2, if_neg]
              intro z
              exact e2 ⟨by omega, z.2⟩
        · rw [pk_un (by omega)]
          exact hI.2 k f hk hf hkj
        · rw [sy_ix, sy_ix, nI_clamp (by omega), nI_clamp (by omega), hI.2 s i hs hi hn])
    16 0 a6 (by omega) ⟨fun f hf => by rw [if_neg (fun z => absurd z.1 (by omega))], fun _ _ _ _ _ => rfl⟩
theorem sy_drop171 {c p : Nat} (hp : p < c) (hc : c ≤ 14) {lm td : Int32} {a1 a2 a3 a4 a5 a6 a7 a8 a9 a10 a11 : Nat → Int32} : ∃ a2' : Nat → Int32, (∀ q, q < c - 1 → a2' q = a2 (sy_sh p q)) ∧ ∃ n, ∀ post : St1 → Prop, post (lm, nI (c - 1), td, a1, a2', a3, a4, a5, a6, a7, a8, a9, a10, a11) → wX_drop_171 post lm (nI c) td n (nI (p + 1)) a1 a2 a3 a4 a5 a6 a7 a8 a9 a10 a11 :=
  sy_lp (fun (po : St1 → Prop) n i t => wX_drop_171 po lm (nI c) td n (nI i) a1 t a3 a4 a5 a6 a7 a8 a9 a10 a11) (fun po t => po (lm, nI (c - 1), td, a1, t, a3, a4, a5, a6, a7, a8, a9, a10, a11))
    (fun i t => p < i ∧ (∀ q, q < p → t q = a2 q) ∧ (∀ q, p ≤ q → q + 1 < i → t q = a2 (q + 1)) ∧ (∀ q, i ≤ q + 1 → t q = a2 q))
    (fun t => ∀ q, q < c - 1 → t q = a2 (sy_sh p q)) c
    (fun t hI => ⟨t, fun q hq => by
        unfold sy_sh
        by_cases e : q < p
        · rw [if_pos e]
          exact hI.2.1 q e
        · rw [if_neg e]
          exact hI.2.2.1 q (by omega) (by omega), fun po n k => pk_le c c (fun _ => nm_r (pk_sub (a := c) (b := 1) (by omega)) k) (fun z => absurd z (by omega))⟩)
    (fun i t hi hI => by
      obtain ⟨k1, k2, k3, k4⟩ := hI
      have e1 : nI i - 1 = nI (i - 1) := pk_sub (a := i) (b := 1) (by omega)
      refine ⟨upd t (i - 1) (a2 i), ⟨by omega, fun q hq => ?_, fun q h1 h2 => ?_, fun q h1 => ?_⟩, fun po n k => pk_le c i (fun z => absurd z (by omega)) (fun _ => ⟨pk_in i 14 (by omega), ?_, nm_r (e' := upd t (i - 1) (a2 i)) ?_ (nm_r (nI_1 i) k)⟩)⟩
      · rw [pk_un (by omega)]
        exact k2 q hq
      · by_cases e : q = i - 1
        · rw [e, pk_us, show i - 1 + 1 = i by omega]
        · rw [pk_un e]
          exact k3 q h1 (by omega)
      · rw [pk_un (by omega)]
        exact k4 q (by omega)
      · rw [e1]
        exact pk_in (i - 1) 14 (by omega)
      · rw [e1, nI_clamp (by omega), nI_clamp (by omega), k4 i (by omega)])
    (c - (p + 1)) (p + 1) a2 (by omega) ⟨by omega, fun _ _ => rfl, fun q h1 h2 => absurd h2 (by omega), fun _ _ => rfl⟩
/-- the slots below i are done -/
def sy_D (a3 a4 a5 a6 a10 : Nat → Int32) (s i : Nat) (b3 b4 b5 b6 : Nat → Int32) : Prop :=
  (∀ j, j < 14 → (j < i ∧ sy_ch a3 a10 s j) → b3 j = a3 s ∧ b4 j = a4 j ||| a4 s ∧ b5 j = a5 j ||| (a5 s &&& sy_ms a4 s j) ∧ ∀ f, f < 16 → b6 (16 * j + f) = if sy_bt (sy_ms a4 s j) f = true then a6 (16 * s + f) else a6 (16 * j + f)) ∧
  (∀ j, j < 14 → ¬ (j < i ∧ sy_ch a3 a10 s j) → b3 j = a3 j ∧ b4 j = a4 j ∧ b5 j = a5 j ∧ ∀ f, f < 16 → b6 (16 * j + f) = a6 (16 * j + f))
theorem sy_D_no {a3 a4 a5 a6 a10 : Nat → Int32} {s i : Nat} {b3 b4 b5 b6 : Nat → Int32} (h : sy_D a3 a4 a5 a6 a10 s i b3 b4 b5 b6) (hn : ¬ sy_ch a3 a10 s i) : sy_D a3 a4 a5 a6 a10 s (i + 1) b3 b4 b5 b6 := by
  refine ⟨fun j hj hc => ?_, fun j hj hc => ?_⟩
  · have : j ≠ i := by
      intro e
      rw [e] at hc
      exact hn hc.2
    exact h.1 j hj ⟨by omega, hc.2⟩
  · exact h.2 j hj (fun z => hc ⟨by omega, z.2⟩)
theorem sy_D_yes {a3 a4 a5 a6 a10 : Nat → Int32} {s i : Nat} {b3 b4 b5 b6 t : Nat → Int32} (h : sy_D a3 a4 a5 a6 a10 s i b3 b4 b5 b6) (hy : sy_ch a3 a10 s i) (hs : s < 14) (hi : i < 14) (hn : ¬ sy_ch a3 a10 s s)
    (T1 : ∀ f, f < 16 → t (16 * i + f) = if sy_bt (sy_ms a4 s i) f = true then b6 (16 * s + f) else b6 (16 * i + f)) (T2 : ∀ k f, k < 14 → f < 16 → k ≠ i → t (16 * k + f) = b6 (16 * k + f)) :
    sy_D a3 a4 a5 a6 a10 s (i + 1) (upd b3 i (b3 s)) (upd b4 i (b4 i ||| b4 s)) (upd b5 i (b5 i ||| (b5 s &&& sy_ms a4 s i))) t := by
  obtain ⟨s3, s4, s5, s6⟩ := h.2 s hs (fun z => hn z.2)
  obtain ⟨i3, i4, i5, i6⟩ := h.2 i hi (fun z => absurd z.1 (by omega))
  refine ⟨fun j hj hc => ?_, fun j hj hc => ?_⟩
  · by_cases e : j = i
    · subst e
      rw [pk_us, pk_us, pk_us, s3, s4, s5, i4, i5]
      refine ⟨rfl, rfl, rfl, fun f hf => ?_⟩
      rw [T1 f hf, s6 f hf, i6 f hf]
    · obtain ⟨d3, d4, d5, d6⟩ := h.1 j hj ⟨by omega, hc.2⟩
      rw [pk_un e, pk_un e, pk_un e]
      refine ⟨d3, d4, d5, fun f hf => ?_⟩
      rw [T2 j f hj hf e]
      exact d6 f hf
  · have e : j ≠ i := by
      intro e
      subst e
      exact hc ⟨by omega, hy⟩
    obtain ⟨d3, d4, d5, d6⟩ := h.2 j hj (fun z => hc ⟨by omega, z.2⟩)
    rw [pk_un e, pk_un e, pk_un e]
    refine ⟨d3, d4, d5, fun f hf => ?_⟩
    rw [T2 j f hj hf e]
    exact d6 f hf
theorem sy_drop9 {c p s : Nat} (hp : p < c) (hc : c ≤ 14) (hs : s < 14) {lm td : Int32} {a1 a2 a3 a4 a5 a6 a7 a8 a9 a10 a11 : Nat → Int32} (hn : ¬ sy_ch a3 a10 s s) :
    ∃ r : (Nat → Int32) × (Nat → Int32) × (Nat → Int32) × (Nat → Int32) × (Nat → Int32), ((∀ q, q < c - 1 → r.1 q = a2 (sy_sh p q)) ∧ sy_D a3 a4 a5 a6 a10 s 14 r.2.1 r.2.2.1 r.2.2.2.1 r.2.2.2.2) ∧
    ∃ n, ∀ post : St1 → Prop, post (lm, nI (c - 1), td, a1, r.1, r.2.1, r.2.2.1, r.2.2.2.1, r.2.2.2.2, a7, a8, a9, upd a10 s 0, a11) → wX_drop_9 post (nI p) (nI s) lm (nI c) td n 0 a1 a2 a3 a4 a5 a6 a7 a8 a9 a10 a11 :=
  sy_lp (σ := (Nat → Int32) × (Nat → Int32) × (Nat → Int32) × (Nat → Int32)) (ρ := (Nat → Int32) × (Nat → Int32) × (Nat → Int32) × (Nat → Int32) × (Nat → Int32)) (fun (po : St1 → Prop) n i t => wX_drop_9 po (nI p) (nI s) lm (nI c) td n (nI i) a1 a2 t.1 t.2.1 t.2.2.1 t.2.2.2 a7 a8 a9 a10 a11)
    (fun po r => po (lm, nI (c - 1), td, a1, r.1, r.2.1, r.2.2.1, r.2.2.2.1, r.2.2.2.2, a7, a8, a9, upd a10 s 0, a11))
    (fun i t => sy_D a3 a4 a5 a6 a10 s i t.1 t.2.1 t.2.2.1 t.2.2.2)
    (fun r => (∀ q, q < c - 1 → r.1 q = a2 (sy_sh p q)) ∧ sy_D a3 a4 a5 a6 a10 s 14 r.2.1 r.2.2.1 r.2.2.2.1 r.2.2.2.2) 14
    (fun t hI => by
      obtain ⟨b3, b4, b5, b6⟩ := t
      obtain ⟨a2', h2, m, run⟩ := sy_drop171 (lm := lm) (td := td) (a1 := a1) (a2 := a2) (a3 := b3) (a4 := b4) (a5 := b5) (a6 := b6) (a7 := a7) (a8 := a8) (a9 := a9) (a10 := upd a10 s 0) (a11 := a11) hp hc
      exact ⟨(a2', b3, b4, b5, b6), ⟨h2, hI⟩, fun po n k => pk_le 14 14 (fun _ => ⟨pk_in s 14 hs, nm_r (e' := upd a10 s 0) (by rw [nI_clamp (by omega)]) (nm_r (nI_1 p) ⟨m, run po k⟩)⟩) (fun z => absurd z (by omega))⟩)
    (fun i t hi hI => by
      obtain ⟨b3, b4, b5, b6⟩ := t
      dsimp only at hI
      obtain ⟨s3, s4, s5, s6⟩ := hI.2 s hs (fun z => hn z.2)
      obtain ⟨i3, i4, i5, i6⟩ := hI.2 i hi (fun z => absurd z.1 (by omega))
      by_cases e10 : a10 i = 0
      · exact ⟨(b3, b4, b5, b6), sy_D_no hI (fun z => z.1 e10), fun po n k => pk_le 14 i (fun z => absurd z (by omega)) (fun _ => ⟨pk_in i 14 hi, br_t (by rw [sy_at a10 (by omega)]; exact e10) (nm_r (nI_1 i) k)⟩)⟩
      · have t10 : ¬ a10 (nI i).toNatClampNeg = 0 := by
          rw [sy_at a10 (by omega)]
          exact e10
        by_cases e3 : a3 i = nI s
        · have hne : s ≠ i := by
            intro z
            rw [← z] at e10 e3
            exact hn ⟨e10, e3⟩
          obtain ⟨u, ⟨T1, T2⟩, m, run⟩ := sy_drop54 hs hi hne (nI p) (sy_ms a4 s i) lm (nI c) td a1 a2 b3 b4 b5 b6 a7 a8 a9 a10 a11
          refine ⟨(upd b3 i (b3 s), upd b4 i (b4 i ||| b4 s), upd b5 i (b5 i ||| (b5 s &&& sy_ms a4 s i)), u), sy_D_yes hI ⟨e10, e3⟩ hs hi hn T1 T2, fun po n k => pk_le 14 i (fun z => absurd z (by omega)) (fun _ => ⟨pk_in i 14 hi, br_f t10 ⟨pk_in i 14 hi, br_t ?_ ⟨pk_in s 14 hs, pk_in i 14 hi, nm_r (e' := sy_ms a4 s i) ?_ ⟨m, run (po, wX_drop_9 po (nI p) (nI s) lm (nI c) td n) k⟩⟩⟩⟩)⟩
          · dsimp only
            rw [sy_at b3 (by omega), i3]
            exact e3
          · dsimp only
            rw [sy_at b4 (by omega), sy_at b4 (by omega), s4, i4]
            rfl
        · refine ⟨(b3, b4, b5, b6), sy_D_no hI (fun z => e3 z.2), fun po n k => pk_le 14 i (fun z => absurd z (by omega)) (fun _ => ⟨pk_in i 14 hi, br_f t10 ⟨pk_in i 14 hi, br_f ?_ (nm_r (nI_1 i) k)⟩⟩)⟩
          dsimp only
          rw [sy_at b3 (by omega), i3]
          exact e3)
    14 0 (a3, a4, a5, a6) (by omega) ⟨fun j hj hc => absurd hc.1 (by omega), fun j hj hc => ⟨rfl, rfl, rfl, fun _ _ => rfl⟩⟩
theorem sy_drop {c : Nat} {o : Nat → Nat} {V : Nat → Nat → Option Int32} {p : Nat} {lm td : Int32} {a1 a2 a3 a4 a5 a6 a7 a8 a9 a10 a11 : Nat → Int32} (I : sy_I c o V lm a1 a2 a3 a4 a5 a6 a9 a10) (hp : p < c) : ∃ a2' a3' a4' a5' a6' a10', sy_I (c - 1) (fun q => o (sy_sh p q)) (fun q => V (sy_sh p q)) lm a1 a2' a3' a4' a5' a6' a9 a10' ∧
    ∀ post : St1 → Prop, post (lm, nI (c - 1), td, a1, a2', a3', a4', a5', a6', a7, a8, a9, a10', a11) → wpX_drop post (lm, nI c, td, a1, a2, a3, a4, a5, a6, a7, a8, a9, a10, a11) (nI p) := by
  have hc := I.1
  have ho := (I.2.1 p hp).1
  have hn : ¬ sy_ch a3 a10 (o p) (o p) := by
    intro z
    rcases I.2.2.2.2.1 p hp with y | ⟨q, hq, y⟩
    · exact absurd (z.2.symm.trans y) (sy_nm (by omega))
    · have e := I.2.2.1 q p (by omega) hp (sy_eqI (I.2.1 q (by omega)).1 ho (y.symm.trans z.2))
      omega
  obtain ⟨⟨a2', a3', a4', a5', a6'⟩, ⟨H2, HD⟩, n, run⟩ := sy_drop9 (lm := lm) (td := td) (a1 := a1) (a2 := a2) (a3 := a3) (a4 := a4) (a5 := a5) (a6 := a6) (a7 := a7) (a8 := a8) (a9 := a9) (a10 := a10) (a11 := a11) hp hc ho hn
  dsimp only at H2 HD
  refine ⟨a2', a3', a4', a5', a6', upd a10 (o p) 0, sy_I_drop I hp H2 (fun j hj hh => HD.1 j hj ⟨hj, hh⟩) (fun j hj hh => HD.2 j hj (fun z => hh z.2)), fun post h => ?_⟩
  unfold wpX_drop
  exact ⟨pk_in p 14 (by omega), nm_r (sy_a2 I hp) ⟨n, run post h⟩⟩
theorem sy_forget {c : Nat} {o : Nat → Nat} {V : Nat → Nat → Option Int32} {p : Nat} {lm td : Int32} {a1 a2 a3 a4 a5 a6 a7 a8 a9 a10 a11 : Nat → Int32} (I : sy_I c o V lm a1 a2 a3 a4 a5 a6 a9 a10) (hp : p < 16) :
    (∃ r : Int32, r < 0 ∧ ∀ post : Int32 → St1 → Prop, post r (lm, nI c, td, a1, a2, a3, a4, a5, a6, a7, a8, a9, a10, a11) → wpX_forget post (lm, nI c, td, a1, a2, a3, a4, a5, a6, a7, a8, a9, a10, a11) (nI p)) ∨
    (p < c ∧ ∃ a2' a3' a4' a5' a6' a10', sy_I (c - 1) (fun q => o (sy_sh p q)) (fun q => V (sy_sh p q)) lm a1 a2' a3' a4' a5' a6' a9 a10' ∧
      ∀ post : Int32 → St1 → Prop, post (nI (c - 1)) (lm, nI (c - 1), td, a1, a2', a3', a4', a5', a6', a7, a8, a9, a10', a11) → wpX_forget post (lm, nI c, td, a1, a2, a3, a4, a5, a6, a7, a8, a9, a10, a11) (nI p)) := by
  have hc := I.1
  by_cases e : p < c
  · have ho := (I.2.1 p e).1
    have hin : vp_in (a2 (nI p).toNatClampNeg) 14 := by
      rw [sy_a2 I e]
      exact pk_in (o p) 14 ho
    by_cases e2 : a8 (a2 (nI p).toNatClampNeg).toNatClampNeg = 0
    · obtain ⟨a2', a3', a4', a5', a6', a10', I', run⟩ := sy_drop (td := td) (a7 := a7) (a8 := a8) (a11 := a11) I e
      refine Or.inr ⟨e, a2', a3', a4', a5', a6', a10', I', fun post h => ?_⟩
      unfold wpX_forget
      exact sy_p1 hc e (br_f (by decide) ⟨pk_in p 14 (by omega), hin, br_t e2 (run _ h)⟩)
    · refine Or.inl ⟨-2, by decide, fun post h => ?_⟩
      unfold wpX_forget
      exact sy_p1 hc e (br_f (by decide) ⟨pk_in p 14 (by omega), hin, br_f e2 h⟩)
  · refine Or.inl ⟨-1, by decide, fun post h => ?_⟩
    unfold wpX_forget
    exact sy_p0 (by omega) hp (br_t rfl h)
end
section
/-! heads of periods: what the class keeps and what the law says is kept -/
def sy_hd (c : Nat) (per : Nat → Int32) (q : Nat) : Bool := decide (q + 1 = c) || !decide (per (q + 1) = per q)
/-- heads among the last k points -/
def sy_H (c : Nat) (per : Nat → Int32) : Nat → Nat
  | 0 => 0
  | k + 1 => sy_H c per k + (if sy_hd c per (c - 1 - k) = true then 1 else 0)
theorem sy_H_step {c i : Nat} (per : Nat → Int32) (hi : i < c) : sy_H c per (c - i) = sy_H c per (c - (i + 1)) + (if sy_hd c per i = true then 1 else 0) := by
  have e : c - i = (c - (i + 1)) + 1 := by omega
  have e2 : c - 1 - (c - (i + 1)) = i := by omega
  rw [e]
  show sy_H c per (c - (i + 1)) + (if sy_hd c per (c - 1 - (c - (i + 1))) = true then 1 else 0) = _
  rw [e2]
theorem sy_H_le (c : Nat) (per : Nat → Int32) : ∀ k, sy_H c per k ≤ k := by
  intro k
  induction k with
  | zero => exact Nat.le_refl 0
  | succ k ih =>
    show sy_H c per k + (if sy_hd c per (c - 1 - k) = true then 1 else 0) ≤ k + 1
    split <;> omega
theorem sy_hd_last {c : Nat} (per : Nat → Int32) (h : 0 < c) : sy_hd c per (c - 1) = true := by
  unfold sy_hd
  rw [decide_eq_true (by omega)]
  rfl
theorem sy_H_1 {c : Nat} (per : Nat → Int32) (h : 0 < c) : sy_H c per 1 = 1 := by
  show 0 + (if sy_hd c per (c - 1 - 0) = true then 1 else 0) = 1
  rw [Nat.sub_zero, sy_hd_last per h, if_pos rfl]
/-- among the last m heads -/
def sy_am (c : Nat) (per : Nat → Int32) (m p : Nat) : Bool := sy_hd c per p && decide (sy_H c per (c - p) ≤ m)
/-- the period of the point at q -/
def sy_pe (o : Nat → Nat) (a7 : Nat → Int32) (len : Int32) (q : Nat) : Int32 := a7 (o q) / len
theorem sy_days {c : Nat} {o : Nat → Nat} {V : Nat → Nat → Option Int32} {q : Nat} {lm td : Int32} {a1 a2 a3 a4 a5 a6 a7 a8 a9 a10 a11 : Nat → Int32} {post : Int32 → Prop} (I : sy_I c o V lm a1 a2 a3 a4 a5 a6 a9 a10) (hq : q < c) (h : post (a7 (o q))) : wpX_dayOf post (lm, nI c, td, a1, a2, a3, a4, a5, a6, a7, a8, a9, a10, a11) (nI q) := by
  have hc := I.1
  have ho := (I.2.1 q hq).1
  unfold wpX_dayOf
  refine sy_p1 hc hq (br_f (by decide) ⟨pk_in q 14 (by omega), ?_⟩)
  rw [sy_a2 I hq]
  refine ⟨pk_in (o q) 14 ho, ?_⟩
  rw [sy_at a7 (by omega)]
  exact h
theorem sy_pts {lm ct td : Int32} {a1 a2 a3 a4 a5 a6 a7 a8 a9 a10 a11 : Nat → Int32} {post : Int32 → Prop} (h : post ct) : wpX_points post (lm, ct, td, a1, a2, a3, a4, a5, a6, a7, a8, a9, a10, a11) := h
/-- the law's loop: what stands when q is next -/
def sy_L (c p : Nat) (per : Nat → Int32) (i l : Nat) (last : Int32) : Prop :=
  (i ≤ p + 1 → l = 0 ∧ last = per p) ∧ (p + 1 ≤ i → i ≤ c → last = per (i - 1) ∧ l + sy_H c per (c - (i - 1)) = sy_H c per (c - p)) ∧ (c ≤ i → l + 1 = sy_H c per (c - p)) ∧ (p + 2 ≤ i → sy_hd c per p = true ∧ (p + 1 < c → 1 ≤ l))
theorem sy_among21 {c : Nat} {o : Nat → Nat} {V : Nat → Nat → Option Int32} {p m : Nat} {len : Int32} {lm td : Int32} {a1 a2 a3 a4 a5 a6 a7 a8 a9 a10 a11 : Nat → Int32} {post : Int32 → Prop} (I : sy_I c o V lm a1 a2 a3 a4 a5 a6 a9 a10) (hp : p < c) (hm : m < 1000) (hl : ¬ len = 0) (h : post (sy_z (sy_am c (sy_pe o a7 len) m p))) :
    ∃ n, wL_among_21 post (nI p) len (nI m) (nI c) lm (nI c) td a1 a2 a3 a4 a5 a6 a7 a8 a9 a10 a11 n 0 (sy_pe o a7 len p) 0 := by
  have hc := I.1
  refine pk_loop (σ := Nat × Int32) (fun n i s => wL_among_21 post (nI p) len (nI m) (nI c) lm (nI c) td a1 a2 a3 a4 a5 a6 a7 a8 a9 a10 a11 n (nI s.1) s.2 (nI i)) (fun i s => s.1 ≤ i ∧ sy_L c p (sy_pe o a7 len) i s.1 s.2) 14 0 (0, sy_pe o a7 len p) (by omega) ?_ ?_ ?_
  · refine ⟨by omega, fun _ => ⟨rfl, rfl⟩, fun z => absurd z (by omega), fun z => absurd z (by omega), fun z => absurd z (by omega)⟩
  · rintro n ⟨l, last⟩ ⟨hl2, k1, k2, k3, k4⟩
    dsimp only at hl2 k1 k2 k3 k4
    have e := k3 (by omega)
    have hh : sy_hd c (sy_pe o a7 len) p = true := by
      by_cases z : p + 2 ≤ 14
      · exact (k4 z).1
      · have z2 : p = c - 1 := by omega
        rw [z2]
        exact sy_hd_last _ (by omega)
    unfold sy_am at h
    rw [hh, Bool.true_and] at h
    refine pk_le 14 14 (fun _ => pk_le m l (fun z => ?_) (fun z => ?_)) (fun z => absurd z (by omega))
    · rw [decide_eq_false (by omega)] at h
      exact h
    · rw [decide_eq_true (by omega)] at h
      exact h
  · rintro n i ⟨l, last⟩ hi ⟨hl2, k1, k2, k3, k4⟩ hw
    dsimp only at hl2 k1 k2 k3 k4
    refine pk_le 14 i (fun z => absurd z (by omega)) (fun _ => pk_le i p (fun z => ?_) (fun z => pk_le c i (fun z2 => ?_) (fun z2 => ?_)))
    · refine nm_r (nI_1 i) (hw (l, last) ⟨by dsimp only; omega, ?_⟩)
      obtain ⟨e1, e2⟩ := k1 (by omega)
      refine ⟨fun _ => ⟨e1, e2⟩, fun y y2 => ?_, fun y => ?_, fun y => absurd y (by omega)⟩
      · have e3 : i = p := by omega
        dsimp only
        rw [e1, e3, e2, Nat.add_sub_cancel]
        exact ⟨rfl, Nat.zero_add _⟩
      · have e3 : c - p = 1 := by omega
        dsimp only
        rw [e1, e3, sy_H_1 _ (by omega)]
    · refine nm_r (nI_1 i) (hw (l, last) ⟨by dsimp only; omega, ?_⟩)
      refine ⟨fun y => absurd y (by omega), fun y y2 => absurd y2 (by omega), fun _ => k3 z2, fun y => ?_⟩
      by_cases y2 : p + 2 ≤ i
      · exact k4 y2
      · have e3 : p = c - 1 := by omega
        refine ⟨?_, fun y3 => absurd y3 (by omega)⟩
        rw [e3]
        exact sy_hd_last _ (by omega)
    · refine sy_days I z2 ⟨hl, nm_e ?_⟩
      obtain ⟨e1, e2⟩ := k2 (by omega) (by omega)
      -- the step that counts
      have cnt : ∀ l' : Nat, (l' = if sy_pe o a7 len i = last then l else l + 1) → (i = p + 1 → ¬ sy_pe o a7 len i = last) → wL_among_21 post (nI p) len (nI m) (nI c) lm (nI c) td a1 a2 a3 a4 a5 a6 a7 a8 a9 a10 a11 n (nI l') (sy_pe o a7 len i) (nI (i + 1)) := by
        intro l' el hne
        have hst : l' + sy_H c (sy_pe o a7 len) (c - i) = sy_H c (sy_pe o a7 len) (c - p) := by
          have s := sy_H_step (sy_pe o a7 len) (show i - 1 < c by omega)
          rw [show i - 1 + 1 = i by omega] at s
          have hdi : sy_hd c (sy_pe o a7 len) (i - 1) = !decide (sy_pe o a7 len i = last) := by
            unfold sy_hd
            rw [decide_eq_false (show ¬ i - 1 + 1 = c by omega), Bool.false_or, show i - 1 + 1 = i by omega, e1]
          rw [hdi] at s
          by_cases e3 : sy_pe o a7 len i = last
          · rw [if_pos e3] at el
            rw [decide_eq_true e3] at s
            rw [el, ← e2, s]
            rfl
          · rw [if_neg e3] at el
            rw [decide_eq_false e3] at s
            have s' : sy_H c (sy_pe o a7 len) (c - (i - 1)) = sy_H c (sy_pe o a7 len) (c - i) + 1 := s
            omega
        refine hw (l', sy_pe o a7 len i) ⟨?_, fun y => absurd y (by omega), fun y y2 => ⟨?_, ?_⟩, fun y => ?_, fun y => ?_⟩
        · dsimp only
          rw [el]
          split <;> omega
        · dsimp only
          rw [Nat.add_sub_cancel]
        · dsimp only
          rw [Nat.add_sub_cancel]
          exact hst
        · have e3 : c - i = 1 := by omega
          rw [e3, sy_H_1 _ (by omega)] at hst
          exact hst
        · by_cases y2 : i = p + 1
          · have ne := hne y2
            rw [if_neg ne] at el
            refine ⟨?_, fun _ => by dsimp only; omega⟩
            unfold sy_hd
            rw [← y2]
            have e4 : ¬ sy_pe o a7 len i = sy_pe o a7 len p := by
              rw [← (k1 (by omega)).2]
              exact ne
            rw [decide_eq_false e4]
            simp
          · obtain ⟨y3, y4⟩ := k4 (by omega)
            refine ⟨y3, fun y5 => ?_⟩
            have := y4 y5
            dsimp only
            rw [el]
            split <;> omega
      have j65 : (i = p + 1 → ¬ sy_pe o a7 len i = last) → wL_among_65 post (wL_among_21 post (nI p) len (nI m) (nI c) lm (nI c) td a1 a2 a3 a4 a5 a6 a7 a8 a9 a10 a11 n) (nI p) len (nI m) (nI c) (nI l) last (nI i) (sy_pe o a7 len i) lm (nI c) td a1 a2 a3 a4 a5 a6 a7 a8 a9 a10 a11 := by
        intro hne
        refine br_c (fun e3 => nm_r (nI_1 i) (cnt l (by rw [if_pos e3]) hne)) (fun e3 => nm_r (nI_1 l) (nm_r (nI_1 i) (cnt (l + 1) (by rw [if_neg e3]) hne)))
      refine pk_eq l 0 (fun e0 => br_c (fun e3 => ?_) (fun e3 => j65 (fun _ => e3))) (fun e0 => j65 (fun e4 => absurd (k1 (by omega)).1 e0))
      have ip : i = p + 1 := by
        apply Classical.byContradiction
        intro y
        have := (k4 (by omega)).2 (by omega)
        omega
      have hz : sy_am c (sy_pe o a7 len) m p = false := by
        unfold sy_am sy_hd
        rw [← ip, decide_eq_false (show ¬ i = c by omega), decide_eq_true (show sy_pe o a7 len i = sy_pe o a7 len p from by rw [← (k1 (by omega)).2]; exact e3)]
        rfl
      rw [hz] at h
      exact h
theorem sy_among {c : Nat} {o : Nat → Nat} {V : Nat → Nat → Option Int32} {p m : Nat} {len : Int32} {lm td : Int32} {a1 a2 a3 a4 a5 a6 a7 a8 a9 a10 a11 : Nat → Int32} {post : Int32 → Prop} (I : sy_I c o V lm a1 a2 a3 a4 a5 a6 a9 a10) (hp : p < c) (hm : m < 1000) (hl : ¬ len = 0) (h : post (sy_z (sy_am c (sy_pe o a7 len) m p))) : wpL_among post (lm, nI c, td, a1, a2, a3, a4, a5, a6, a7, a8, a9, a10, a11) (nI p) len (nI m) := by
  obtain ⟨n, k⟩ := sy_among21 (td := td) (a8 := a8) (a11 := a11) I hp hm hl h
  unfold wpL_among
  refine sy_pts (sy_days I hp ⟨hl, nm_e ⟨n, k⟩⟩)
/-- what the law says is kept -/
def sy_kp (c : Nat) (o : Nat → Nat) (a7 a8 : Nat → Int32) (pl p : Nat) : Bool :=
  !decide (a8 (o p) = 0) || decide (p + 1 = c) || sy_am c (sy_pe o a7 1) (pl / 100) p || sy_am c (sy_pe o a7 7) (pl / 10 % 10) p || sy_am c (sy_pe o a7 28) (pl % 10) p
theorem sy_pinned {c : Nat} {o : Nat → Nat} {V : Nat → Nat → Option Int32} {p : Nat} {lm td : Int32} {a1 a2 a3 a4 a5 a6 a7 a8 a9 a10 a11 : Nat → Int32} {post : Int32 → Prop} (I : sy_I c o V lm a1 a2 a3 a4 a5 a6 a9 a10) (hp : p < c) (h : post (sy_z (!decide (a8 (o p) = 0)))) : wpX_pinned post (lm, nI c, td, a1, a2, a3, a4, a5, a6, a7, a8, a9, a10, a11) (nI p) := by
  have hc := I.1
  have ho := (I.2.1 p hp).1
  unfold wpX_pinned
  refine sy_p1 hc hp (br_f (by decide) ⟨pk_in p 14 (by omega), ?_⟩)
  rw [sy_a2 I hp]
  refine ⟨pk_in (o p) 14 ho, ?_⟩
  rw [sy_at a8 (by omega)]
  refine br_c (fun e => ?_) (fun e => ?_)
  · rw [decide_eq_true e] at h
    exact h
  · rw [decide_eq_false e] at h
    exact h
theorem sy_kept {c : Nat} {o : Nat → Nat} {V : Nat → Nat → Option Int32} {p pl : Nat} {lm td : Int32} {a1 a2 a3 a4 a5 a6 a7 a8 a9 a10 a11 : Nat → Int32} {post : Int32 → Prop} (I : sy_I c o V lm a1 a2 a3 a4 a5 a6 a9 a10) (hp : p < c) (hl : pl < 1000) (h : post (sy_z (sy_kp c o a7 a8 pl p))) : wpL_kept post (lm, nI c, td, a1, a2, a3, a4, a5, a6, a7, a8, a9, a10, a11) (nI p) (nI pl) := by
  have hc := I.1
  have e1 : nI c - 1 = nI (c - 1) := pk_sub (a := c) (b := 1) (by omega)
  have d1 : nI pl / 100 = nI (pl / 100) := pk_div (a := pl) (d := 100) (by omega) (by omega) (by omega)
  have d2 : nI pl / 10 = nI (pl / 10) := pk_div (a := pl) (d := 10) (by omega) (by omega) (by omega)
  have d3 : nI (pl / 10) - nI (pl / 10) / 10 * 10 = nI (pl / 10 % 10) := pk_rem (a := pl / 10) (d := 10) (by omega) (by omega) (by omega)
  have d4 : nI pl - nI pl / 10 * 10 = nI (pl % 10) := pk_rem (a := pl) (d := 10) (by omega) (by omega) (by omega)
  unfold wpL_kept
  refine sy_pinned I hp ?_
  unfold sy_kp at h
  cases h8 : (!decide (a8 (o p) = 0))
  · rw [h8] at h
    refine br_f (by decide) (sy_pts ?_)
    rw [e1]
    by_cases ep : p + 1 = c
    · rw [decide_eq_true ep] at h
      exact br_t (by rw [show p = c - 1 by omega]) h
    · rw [decide_eq_false ep] at h
      refine br_f (fun z => ep ?_) ⟨by decide, ?_⟩
      · have := (nI_eq (by omega) (by omega)).mp z
        omega
      · rw [d4, d2, d3, d1]
        refine sy_among I hp (by omega) (by decide) ⟨by decide, by decide, sy_among I hp (by omega) (by decide) ?_⟩
        cases k1 : sy_am c (sy_pe o a7 1) (pl / 100) p
        · rw [k1] at h
          cases k2 : sy_am c (sy_pe o a7 7) (pl / 10 % 10) p
          · rw [k2] at h
            refine br_t rfl (br_t rfl ⟨by decide, sy_among I hp (by omega) (by decide) ?_⟩)
            cases k3 : sy_am c (sy_pe o a7 28) (pl % 10) p
            · rw [k3] at h
              exact br_t rfl h
            · rw [k3] at h
              exact br_f (by decide) h
          · rw [k2] at h
            exact br_t rfl (br_f (by decide) h)
        · rw [k1] at h
          exact br_f (by decide) h
  · rw [h8] at h
    exact br_t rfl h
/-- how many below n -/
def sy_cnt (k : Nat → Bool) : Nat → Nat
  | 0 => 0
  | n + 1 => sy_cnt k n + (if k n = true then 1 else 0)
theorem sy_cnt_le (k : Nat → Bool) : ∀ n, sy_cnt k n ≤ n := by
  intro n
  induction n with
  | zero => exact Nat.le_refl 0
  | succ n ih =>
    show sy_cnt k n + (if k n = true then 1 else 0) ≤ n + 1
    split <;> omega
theorem sy_cnt_mono (k : Nat → Bool) {a : Nat} : ∀ d, sy_cnt k a ≤ sy_cnt k (a + d) := by
  intro d
  induction d with
  | zero => exact Nat.le_refl _
  | succ d ih =>
    show sy_cnt k a ≤ sy_cnt k (a + d) + (if k (a + d) = true then 1 else 0)
    omega
theorem sy_cnt_t {k : Nat → Bool} {n : Nat} (h : k n = true) : sy_cnt k (n + 1) = sy_cnt k n + 1 := by
  show sy_cnt k n + (if k n = true then 1 else 0) = _
  rw [if_pos h]
theorem sy_cnt_f {k : Nat → Bool} {n : Nat} (h : k n = false) : sy_cnt k (n + 1) = sy_cnt k n := by
  show sy_cnt k n + (if k n = true then 1 else 0) = _
  rw [if_neg (by rw [h]; decide)]
  rfl
theorem sy_after {c : Nat} {o : Nat → Nat} {V : Nat → Nat → Option Int32} {p pl : Nat} {lm td : Int32} {a1 a2 a3 a4 a5 a6 a7 a8 a9 a10 a11 : Nat → Int32} {post : Int32 → Prop} (I : sy_I c o V lm a1 a2 a3 a4 a5 a6 a9 a10) (hp : p < c) (hl : pl < 1000) (h1 : sy_kp c o a7 a8 pl p = true → post (nI (sy_cnt (sy_kp c o a7 a8 pl) p))) (h0 : sy_kp c o a7 a8 pl p = false → post (-1)) : wpL_after post (lm, nI c, td, a1, a2, a3, a4, a5, a6, a7, a8, a9, a10, a11) (nI p) (nI pl) := by
  have hc := I.1
  unfold wpL_after
  refine br_f (nI_pos (by omega)) (sy_kept I hp hl (br_c (fun z => h0 (sy_z0.mp z)) (fun z => ?_)))
  have hk : sy_kp c o a7 a8 pl p = true := sy_nt (fun y => z (sy_z0.mpr y))
  refine pk_loop (σ := Unit) (fun n i _ => wL_after_20 post (nI p) (nI pl) lm (nI c) td a1 a2 a3 a4 a5 a6 a7 a8 a9 a10 a11 n (nI (sy_cnt (sy_kp c o a7 a8 pl) (min i p))) (nI i)) (fun _ _ => True) 14 0 () (by omega) trivial ?_ ?_
  · intro n _ _
    rw [show min 14 p = p by omega]
    exact pk_le 14 14 (fun _ => h1 hk) (fun z => absurd z (by omega))
  · intro n i _ hi _ hw
    have w := hw () trivial
    refine pk_le 14 i (fun z => absurd z (by omega)) (fun _ => pk_le p i (fun z => nm_r (nI_1 i) ?_) (fun z => sy_kept I (by omega) hl ?_))
    · rw [show min (i + 1) p = min i p by omega] at w
      exact w
    · rw [show min (i + 1) p = i + 1 by omega] at w
      rw [show min i p = i by omega]
      refine br_c (fun y => nm_r (nI_1 i) ?_) (fun y => nm_r (nI_1 _) (nm_r (nI_1 i) ?_))
      · rw [sy_cnt_f (sy_z0.mp y)] at w
        exact w
      · rw [sy_cnt_t (sy_nt (fun x => y (sy_z0.mpr x)))] at w
        exact w
end
section
/-! keepHeads and prune -/
theorem sy_dn (i : Nat) : nI i + (-1) = nI i - 1 := (Int32.sub_eq_add_neg _ _).symm
abbrev sy_K10 : Type := Int32 → Int32 → (Nat → Int32) → (Nat → Int32) → (Nat → Int32) → (Nat → Int32) → (Nat → Int32) → (Nat → Int32) → (Nat → Int32) → (Nat → Int32) → (Nat → Int32) → (Nat → Int32) → (Nat → Int32) → Prop
theorem sy_84 {i m h0 : Nat} (hi : i < 14) (hm : m < 1000) (hh : h0 < 1000) (z : Bool) (x1 : Int32) {post : St1 → Prop} {J : sy_K10} {lm ct td : Int32} {a1 a2 a3 a4 a5 a6 a7 a8 a9 a10 a11 : Nat → Int32}
    (h : J (nI (h0 + (if z = true then 1 else 0))) (nI i - 1) a1 a2 a3 a4 a5 a6 a7 a8 a9 a10 (if z = true ∧ h0 + 1 ≤ m then upd a11 i 1 else a11)) : wX_keepHeads_84 post J x1 (nI m) (nI h0) (nI i) (sy_z z) lm ct td a1 a2 a3 a4 a5 a6 a7 a8 a9 a10 a11 := by
  cases z
  · rw [if_neg (by decide), if_neg (fun y => absurd y.1 (by decide)), Nat.add_zero] at h
    exact br_t rfl (nm_r (sy_dn i) h)
  · rw [if_pos rfl] at h
    refine br_f (by decide) (nm_r (nI_1 h0) (pk_lt m (h0 + 1) (fun y => ?_) (fun y => ?_)))
    · rw [if_neg (fun w => absurd w.2 (by omega))] at h
      exact nm_r (sy_dn i) h
    · rw [if_pos ⟨rfl, y⟩] at h
      exact ⟨pk_in i 14 hi, nm_r (e' := upd a11 i 1) (by rw [nI_clamp (by omega)]) (nm_r (sy_dn i) h)⟩
theorem sy_heads {c : Nat} {o : Nat → Nat} {V : Nat → Nat → Option Int32} {m : Nat} {len : Int32} {lm td : Int32} {a1 a2 a3 a4 a5 a6 a7 a8 a9 a10 a11 : Nat → Int32} (I : sy_I c o V lm a1 a2 a3 a4 a5 a6 a9 a10) (hm : m < 1000) (hl : ¬ len ≤ 0) (hl0 : ¬ len = 0) : ∃ a11' : Nat → Int32, (∀ q, q < c → a11' q = if sy_am c (sy_pe o a7 len) m q = true then 1 else a11 q) ∧
    ∀ post : St1 → Prop, post (lm, nI c, td, a1, a2, a3, a4, a5, a6, a7, a8, a9, a10, a11') → wpX_keepHeads post (lm, nI c, td, a1, a2, a3, a4, a5, a6, a7, a8, a9, a10, a11) len (nI m) := by
  have hc := I.1
  have lp := sy_lpd (fun (po : St1 → Prop) n i s => wX_keepHeads_10 po len (nI m) lm (nI c) td n (nI (sy_H c (sy_pe o a7 len) (c - i))) (nI i - 1) a1 a2 a3 a4 a5 a6 a7 a8 a9 a10 s) (fun po r => po (lm, nI c, td, a1, a2, a3, a4, a5, a6, a7, a8, a9, a10, r))
    (fun i s => i ≤ c ∧ ∀ q, q < c → s q = if i ≤ q ∧ sy_am c (sy_pe o a7 len) m q = true then 1 else a11 q) (fun s => ∀ q, q < c → s q = if sy_am c (sy_pe o a7 len) m q = true then 1 else a11 q)
    (fun s hI => ⟨s, fun q hq => by
        rw [hI.2 q hq]
        by_cases e : sy_am c (sy_pe o a7 len) m q = true
        · rw [if_pos ⟨by omega, e⟩, if_pos e]
        · rw [if_neg (fun z => e z.2), if_neg e], fun po n k => br_t (by rw [nI_0]; decide) k⟩)
    (fun i s hI => by
      obtain ⟨hic, hs⟩ := hI
      have ho := (I.2.1 i (by omega)).1
      have hst := sy_H_step (sy_pe o a7 len) (show i < c by omega)
      have hle := sy_H_le c (sy_pe o a7 len) (c - (i + 1))
      refine ⟨if sy_hd c (sy_pe o a7 len) i = true ∧ sy_H c (sy_pe o a7 len) (c - (i + 1)) + 1 ≤ m then upd s i 1 else s, ⟨by omega, fun q hq => ?_⟩, fun po n k => ?_⟩
      · by_cases e : q = i
        · subst e
          by_cases ea : sy_am c (sy_pe o a7 len) m q = true
          · rw [if_pos (show q ≤ q ∧ sy_am c (sy_pe o a7 len) m q = true from ⟨by omega, ea⟩)]
            unfold sy_am at ea
            obtain ⟨e1, e2⟩ := Bool.and_eq_true_iff.mp ea
            have e3 := of_decide_eq_true e2
            rw [hst, if_pos e1] at e3
            rw [if_pos ⟨e1, e3⟩, pk_us]
          · rw [if_neg (show ¬ (q ≤ q ∧ sy_am c (sy_pe o a7 len) m q = true) from fun z => ea z.2)]
            have no : ¬ (sy_hd c (sy_pe o a7 len) q = true ∧ sy_H c (sy_pe o a7 len) (c - (q + 1)) + 1 ≤ m) := by
              intro z
              apply ea
              unfold sy_am
              rw [z.1, hst, if_pos z.1, decide_eq_true z.2]
              rfl
            rw [if_neg no, hs q hq, if_neg (fun z => absurd z.1 (by omega))]
        · have e1 : (if sy_hd c (sy_pe o a7 len) i = true ∧ sy_H c (sy_pe o a7 len) (c - (i + 1)) + 1 ≤ m then upd s i 1 else s) q = s q := by
            split
            · exact pk_un e
            · rfl
          rw [e1, hs q hq]
          by_cases e2 : i + 1 ≤ q ∧ sy_am c (sy_pe o a7 len) m q = true
          · rw [if_pos e2, if_pos ⟨by omega, e2.2⟩]
          · rw [if_neg e2, if_neg (fun z => e2 ⟨by omega, z.2⟩)]
      · have k2 : wX_keepHeads_10 po len (nI m) lm (nI c) td n (nI (sy_H c (sy_pe o a7 len) (c - (i + 1)) + (if sy_hd c (sy_pe o a7 len) i = true then 1 else 0))) (nI i - 1) a1 a2 a3 a4 a5 a6 a7 a8 a9 a10 (if sy_hd c (sy_pe o a7 len) i = true ∧ sy_H c (sy_pe o a7 len) (c - (i + 1)) + 1 ≤ m then upd s i 1 else s) := by
          rw [← hst]
          exact k
        have k3 := sy_84 (post := po) (J := wX_keepHeads_10 po len (nI m) lm (nI c) td n) (lm := lm) (ct := nI c) (td := td) (show i < 14 by omega) hm (by omega) (sy_hd c (sy_pe o a7 len) i) len k2
        show wX_keepHeads_10 po len (nI m) lm (nI c) td (n + 1) (nI (sy_H c (sy_pe o a7 len) (c - (i + 1)))) (nI (i + 1) - 1) a1 a2 a3 a4 a5 a6 a7 a8 a9 a10 s
        rw [nI_pred]
        refine br_f (nI_pos (by omega)) ⟨pk_in i 14 (by omega), ?_⟩
        rw [sy_a2 I (show i < c by omega)]
        refine ⟨pk_in (o i) 14 ho, br_f hl ?_⟩
        rw [sy_at a7 (by omega)]
        refine And.intro hl0 (nm_e ?_)
        by_cases ec : i + 1 = c
        · have hd : sy_hd c (sy_pe o a7 len) i = true := by
            unfold sy_hd
            rw [decide_eq_true ec]
            rfl
          rw [hd] at k3
          refine br_t ?_ k3
          rw [← ec]
          exact (nI_pred i).symm
        · have hd : sy_hd c (sy_pe o a7 len) i = !decide (sy_pe o a7 len (i + 1) = sy_pe o a7 len i) := by
            unfold sy_hd
            rw [decide_eq_false ec]
            rfl
          have ho2 := (I.2.1 (i + 1) (by omega)).1
          refine br_f (fun z => ec ?_) ?_
          · have z2 : nI i = nI (c - 1) := z.trans (pk_sub (a := c) (b := 1) (by omega))
            have := (nI_eq (by omega) (by omega)).mp z2
            omega
          · rw [nI_1]
            refine ⟨pk_in (i + 1) 14 (by omega), ?_⟩
            rw [sy_a2 I (show i + 1 < c by omega)]
            refine ⟨pk_in (o (i + 1)) 14 ho2, br_f hl ?_⟩
            rw [sy_at a7 (by omega)]
            refine And.intro hl0 (br_c (fun e => ?_) (fun e => ?_))
            · rw [hd, decide_eq_true (show sy_pe o a7 len (i + 1) = sy_pe o a7 len i from e)] at k3
              exact k3
            · rw [hd, decide_eq_false (show ¬ sy_pe o a7 len (i + 1) = sy_pe o a7 len i from e)] at k3
              exact k3)
    c a11 ⟨by omega, fun q hq => by rw [if_neg (fun z => absurd z.1 (by omega))]⟩
  obtain ⟨a11', h11, n, run⟩ := lp
  refine ⟨a11', h11, fun post h => ?_⟩
  have k := run post h
  rw [Nat.sub_self] at k
  unfold wpX_keepHeads
  exact nm_e ⟨n, k⟩
/-! who stands where while points are dropped from the top -/
def sy_tr (k : Nat → Bool) (c i cc : Nat) (V V' : Nat → Nat → Option Int32) : Prop :=
  ∀ x, x < c → (x < i → V' x = V x) ∧ (i ≤ x → k x = true → i + (sy_cnt k x - sy_cnt k i) < cc ∧ V' (i + (sy_cnt k x - sy_cnt k i)) = V x)
theorem sy_cnt_m2 (k : Nat → Bool) {a b : Nat} (h : a ≤ b) : sy_cnt k a ≤ sy_cnt k b := by
  have := sy_cnt_mono k (a := a) (b - a)
  rw [show a + (b - a) = b by omega] at this
  exact this
theorem sy_tr_keep {k : Nat → Bool} {c i cc : Nat} {V V' : Nat → Nat → Option Int32} (hk : k i = true) (hi : i < cc) (h : sy_tr k c (i + 1) cc V V') : sy_tr k c i cc V V' := by
  intro x hx
  obtain ⟨h1, h2⟩ := h x hx
  refine ⟨fun z => h1 (by omega), fun z kx => ?_⟩
  by_cases e : x = i
  · subst e
    rw [Nat.sub_self, Nat.add_zero]
    exact ⟨hi, h1 (by omega)⟩
  · have k2 := h2 (by omega) kx
    have m := sy_cnt_m2 k (show i + 1 ≤ x by omega)
    rw [sy_cnt_t hk] at k2 m
    rw [show i + 1 + (sy_cnt k x - (sy_cnt k i + 1)) = i + (sy_cnt k x - sy_cnt k i) by omega] at k2
    exact k2
theorem sy_tr_drop {k : Nat → Bool} {c i cc : Nat} {V V' : Nat → Nat → Option Int32} (hk : k i = false) (h : sy_tr k c (i + 1) cc V V') : sy_tr k c i (cc - 1) V (fun q => V' (sy_sh i q)) := by
  intro x hx
  obtain ⟨h1, h2⟩ := h x hx
  refine ⟨fun z => ?_, fun z kx => ?_⟩
  · dsimp only
    unfold sy_sh
    rw [if_pos z]
    exact h1 (by omega)
  · have e : x ≠ i := by
      intro e
      rw [e, hk] at kx
      exact absurd kx (by decide)
    have k2 := h2 (by omega) kx
    rw [sy_cnt_f hk] at k2
    dsimp only
    unfold sy_sh
    rw [if_neg (by omega)]
    rw [show i + 1 + (sy_cnt k x - sy_cnt k i) = i + (sy_cnt k x - sy_cnt k i) + 1 by omega] at k2
    exact ⟨by omega, k2.2⟩
theorem sy_prune105 {c : Nat} {o : Nat → Nat} {V : Nat → Nat → Option Int32} (k : Nat → Bool) {lm td : Int32} {a1 a2 a3 a4 a5 a6 a7 a8 a9 a10 a11 : Nat → Int32} (I : sy_I c o V lm a1 a2 a3 a4 a5 a6 a9 a10) (hk : ∀ q, q < c → (a11 q = 0 ↔ k q = false)) :
    ∃ r : Int32 × Nat × (Nat → Int32) × (Nat → Int32) × (Nat → Int32) × (Nat → Int32) × (Nat → Int32) × (Nat → Int32),
    (∃ o' V', sy_I r.2.1 o' V' lm a1 r.2.2.1 r.2.2.2.1 r.2.2.2.2.1 r.2.2.2.2.2.1 r.2.2.2.2.2.2.1 a9 r.2.2.2.2.2.2.2 ∧ ∀ x, x < c → k x = true → sy_cnt k x < r.2.1 ∧ V' (sy_cnt k x) = V x) ∧
    ∃ n, ∀ post : Int32 → St1 → Prop, post r.1 (lm, nI r.2.1, td, a1, r.2.2.1, r.2.2.2.1, r.2.2.2.2.1, r.2.2.2.2.2.1, r.2.2.2.2.2.2.1, a7, a8, a9, r.2.2.2.2.2.2.2, a11) → wX_prune_105 post n 0 (nI c - 1) lm (nI c) td a1 a2 a3 a4 a5 a6 a7 a8 a9 a10 a11 :=
  sy_lpd (σ := Int32 × Nat × (Nat → Int32) × (Nat → Int32) × (Nat → Int32) × (Nat → Int32) × (Nat → Int32) × (Nat → Int32)) (ρ := Int32 × Nat × (Nat → Int32) × (Nat → Int32) × (Nat → Int32) × (Nat → Int32) × (Nat → Int32) × (Nat → Int32))
    (fun (po : Int32 → St1 → Prop) n i s => wX_prune_105 po n s.1 (nI i - 1) lm (nI s.2.1) td a1 s.2.2.1 s.2.2.2.1 s.2.2.2.2.1 s.2.2.2.2.2.1 s.2.2.2.2.2.2.1 a7 a8 a9 s.2.2.2.2.2.2.2 a11)
    (fun po r => po r.1 (lm, nI r.2.1, td, a1, r.2.2.1, r.2.2.2.1, r.2.2.2.2.1, r.2.2.2.2.2.1, r.2.2.2.2.2.2.1, a7, a8, a9, r.2.2.2.2.2.2.2, a11))
    (fun i s => i ≤ c ∧ i ≤ s.2.1 ∧ ∃ o' V', sy_I s.2.1 o' V' lm a1 s.2.2.1 s.2.2.2.1 s.2.2.2.2.1 s.2.2.2.2.2.1 s.2.2.2.2.2.2.1 a9 s.2.2.2.2.2.2.2 ∧ sy_tr k c i s.2.1 V V')
    (fun r => ∃ o' V', sy_I r.2.1 o' V' lm a1 r.2.2.1 r.2.2.2.1 r.2.2.2.2.1 r.2.2.2.2.2.1 r.2.2.2.2.2.2.1 a9 r.2.2.2.2.2.2.2 ∧ ∀ x, x < c → k x = true → sy_cnt k x < r.2.1 ∧ V' (sy_cnt k x) = V x)
    (fun s hI => by
      obtain ⟨_, _, o', V', I', T⟩ := hI
      refine ⟨s, ⟨o', V', I', fun x hx kx => ?_⟩, fun po n k => br_t (by rw [nI_0]; decide) k⟩
      have t := (T x hx).2 (by omega) kx
      rw [show sy_cnt k 0 = 0 from rfl, Nat.zero_add, Nat.sub_zero] at t
      exact t)
    (fun i s hI => by
      obtain ⟨d, cc, b2, b3, b4, b5, b6, b10⟩ := s
      obtain ⟨hic, hicc, o', V', I', T⟩ := hI
      dsimp only at hicc I' T
      have hcc := I'.1
      have t11 := sy_at a11 (show i < 2 ^ 31 by omega)
      cases hb : k i
      · obtain ⟨c2, c3, c4, c5, c6, c10, I2, run⟩ := sy_drop (td := td) (a7 := a7) (a8 := a8) (a11 := a11) I' (show i < cc by omega)
        refine ⟨(d + 1, cc - 1, c2, c3, c4, c5, c6, c10), ⟨by omega, by dsimp only; omega, _, _, I2, sy_tr_drop hb T⟩, fun po n kk => ?_⟩
        show wX_prune_105 po (n + 1) d (nI (i + 1) - 1) lm (nI cc) td a1 b2 b3 b4 b5 b6 a7 a8 a9 b10 a11
        rw [nI_pred]
        refine br_f (nI_pos (by omega)) ⟨pk_in i 14 (by omega), br_t ?_ (run _ (nm_e (nm_r (sy_dn i) kk)))⟩
        rw [t11]
        exact (hk i (by omega)).mpr hb
      · refine ⟨(d, cc, b2, b3, b4, b5, b6, b10), ⟨by omega, by dsimp only; omega, o', V', I', sy_tr_keep hb (show i < cc by omega) T⟩, fun po n kk => ?_⟩
        show wX_prune_105 po (n + 1) d (nI (i + 1) - 1) lm (nI cc) td a1 b2 b3 b4 b5 b6 a7 a8 a9 b10 a11
        rw [nI_pred]
        refine br_f (nI_pos (by omega)) ⟨pk_in i 14 (by omega), br_f ?_ (nm_r (sy_dn i) kk)⟩
        rw [t11]
        intro z
        have := (hk i (by omega)).mp z
        rw [hb] at this
        exact absurd this (by decide))
    c (0, c, a2, a3, a4, a5, a6, a10) ⟨by omega, by dsimp only; omega, o, V, I, fun x hx => ⟨fun _ => rfl, fun z => absurd hx (by omega)⟩⟩
theorem sy_prune {c : Nat} {o : Nat → Nat} {V : Nat → Nat → Option Int32} {pl : Nat} {lm td : Int32} {a1 a2 a3 a4 a5 a6 a7 a8 a9 a10 a11 : Nat → Int32} (I : sy_I c o V lm a1 a2 a3 a4 a5 a6 a9 a10) (hl : pl < 1000) :
    ∃ r cc o' V' a2' a3' a4' a5' a6' a10' a11', sy_I cc o' V' lm a1 a2' a3' a4' a5' a6' a9 a10' ∧ (∀ x, x < c → sy_kp c o a7 a8 pl x = true → sy_cnt (sy_kp c o a7 a8 pl) x < cc ∧ V' (sy_cnt (sy_kp c o a7 a8 pl) x) = V x) ∧
    ∀ post : Int32 → St1 → Prop, post r (lm, nI cc, td, a1, a2', a3', a4', a5', a6', a7, a8, a9, a10', a11') → wpX_prune post (lm, nI c, td, a1, a2, a3, a4, a5, a6, a7, a8, a9, a10, a11) (nI pl) := by
  have hc := I.1
  have d1 : nI pl / 100 = nI (pl / 100) := pk_div (a := pl) (d := 100) (by omega) (by omega) (by omega)
  have d2 : nI pl / 10 = nI (pl / 10) := pk_div (a := pl) (d := 10) (by omega) (by omega) (by omega)
  have d3 : nI (pl / 10) - nI (pl / 10) / 10 * 10 = nI (pl / 10 % 10) := pk_rem (a := pl / 10) (d := 10) (by omega) (by omega) (by omega)
  have d4 : nI pl - nI pl / 10 * 10 = nI (pl % 10) := pk_rem (a := pl) (d := 10) (by omega) (by omega) (by omega)
  have lp := sy_lp (fun (po : Int32 → St1 → Prop) n i s => wX_prune_15 po (nI pl) lm (nI c) td n (nI i) a1 a2 a3 a4 a5 a6 a7 a8 a9 a10 s)
    (fun po (r : Int32 × Nat × (Nat → Int32) × (Nat → Int32) × (Nat → Int32) × (Nat → Int32) × (Nat → Int32) × (Nat → Int32) × (Nat → Int32)) => po r.1 (lm, nI r.2.1, td, a1, r.2.2.1, r.2.2.2.1, r.2.2.2.2.1, r.2.2.2.2.2.1, r.2.2.2.2.2.2.1, a7, a8, a9, r.2.2.2.2.2.2.2.1, r.2.2.2.2.2.2.2.2))
    (fun i s => ∀ q, q < i → (s q = 0 ↔ (!decide (a8 (o q) = 0) || decide (q + 1 = c)) = false))
    (fun r => ∃ o' V', sy_I r.2.1 o' V' lm a1 r.2.2.1 r.2.2.2.1 r.2.2.2.2.1 r.2.2.2.2.2.1 r.2.2.2.2.2.2.1 a9 r.2.2.2.2.2.2.2.1 ∧ ∀ x, x < c → sy_kp c o a7 a8 pl x = true → sy_cnt (sy_kp c o a7 a8 pl) x < r.2.1 ∧ V' (sy_cnt (sy_kp c o a7 a8 pl) x) = V x) c
    (fun s hI => by
      obtain ⟨s1, h1, run1⟩ := sy_heads (m := pl / 100) (len := 1) (td := td) (a8 := a8) (a11 := s) (a7 := a7) I (by omega) (by decide) (by decide)
      obtain ⟨s2, h2, run2⟩ := sy_heads (m := pl / 10 % 10) (len := 7) (td := td) (a8 := a8) (a11 := s1) (a7 := a7) I (by omega) (by decide) (by decide)
      obtain ⟨s3, h3, run3⟩ := sy_heads (m := pl % 10) (len := 28) (td := td) (a8 := a8) (a11 := s2) (a7 := a7) I (by omega) (by decide) (by decide)
      obtain ⟨⟨r, cc, b2, b3, b4, b5, b6, b10⟩, ⟨o', V', I', T⟩, n5, run5⟩ := sy_prune105 (td := td) (a7 := a7) (a8 := a8) (a11 := s3) (sy_kp c o a7 a8 pl) I (by
        intro q hq
        have k0 := hI q hq
        have k1 := h1 q hq
        have k2 := h2 q hq
        have k3 := h3 q hq
        unfold sy_kp
        rw [k3, k2, k1]
        revert k0
        cases sy_am c (sy_pe o a7 28) (pl % 10) q <;> cases sy_am c (sy_pe o a7 7) (pl / 10 % 10) q <;> cases sy_am c (sy_pe o a7 1) (pl / 100) q <;> cases (!decide (a8 (o q) = 0) || decide (q + 1 = c)) <;> simp)
      refine ⟨(r, cc, b2, b3, b4, b5, b6, b10, s3), ⟨o', V', I', T⟩, fun po n kk => pk_le c c (fun _ => ⟨by decide, ?_⟩) (fun z => absurd z (by omega))⟩
      rw [d4, d2, d3, d1]
      exact run1 _ ⟨by decide, by decide, run2 _ ⟨by decide, run3 _ (nm_e ⟨n5, run5 po kk⟩)⟩⟩)
    (fun i s hi hI => by
      have ho := (I.2.1 i hi).1
      have hin : vp_in (a2 (nI i).toNatClampNeg) 14 := by
        rw [sy_a2 I hi]
        exact pk_in (o i) 14 ho
      have t8 : a8 (a2 (nI i).toNatClampNeg).toNatClampNeg = a8 (o i) := by rw [sy_a2 I hi, sy_at a8 (by omega)]
      have st : ∀ v : Int32, (v = 0 ↔ (!decide (a8 (o i) = 0) || decide (i + 1 = c)) = false) → ∀ q, q < i + 1 → (upd s i v q = 0 ↔ (!decide (a8 (o q) = 0) || decide (q + 1 = c)) = false) := by
        intro v hv q hq
        by_cases e : q = i
        · rw [e, pk_us]
          exact hv
        · rw [pk_un e]
          exact hI q (by omega)
      have ec : nI i = nI c - 1 ↔ i + 1 = c := by
        rw [show nI c - 1 = nI (c - 1) from pk_sub (a := c) (b := 1) (by omega), nI_eq (by omega) (by omega)]
        omega
      by_cases e8 : a8 (o i) = 0
      · by_cases el : i + 1 = c
        · refine ⟨upd s i 1, st 1 ?_, fun po n kk => pk_le c i (fun z => absurd z (by omega)) (fun _ => ⟨pk_in i 14 (by omega), hin, br_t (t8.trans e8) (br_t (ec.mpr el) ⟨pk_in i 14 (by omega), nm_r (e' := upd s i 1) (by rw [nI_clamp (by omega)]) (nm_r (nI_1 i) kk)⟩)⟩)⟩
          rw [decide_eq_true el, Bool.or_true]
          decide
        · refine ⟨upd s i 0, st 0 ?_, fun po n kk => pk_le c i (fun z => absurd z (by omega)) (fun _ => ⟨pk_in i 14 (by omega), hin, br_t (t8.trans e8) (br_f (fun z => el (ec.mp z)) ⟨pk_in i 14 (by omega), nm_r (e' := upd s i 0) (by rw [nI_clamp (by omega)]) (nm_r (nI_1 i) kk)⟩)⟩)⟩
          rw [decide_eq_false el, decide_eq_true e8]
          decide
      · refine ⟨upd s i 1, st 1 ?_, fun po n kk => pk_le c i (fun z => absurd z (by omega)) (fun _ => ⟨pk_in i 14 (by omega), hin, br_f (fun z => e8 (t8.symm.trans z)) ⟨pk_in i 14 (by omega), nm_r (e' := upd s i 1) (by rw [nI_clamp (by omega)]) (nm_r (nI_1 i) kk)⟩⟩)⟩
        rw [decide_eq_false e8]
        simp)
    c 0 a11 (by omega) (fun q hq => absurd hq (by omega))
  obtain ⟨⟨r, cc, b2, b3, b4, b5, b6, b10, b11⟩, ⟨o', V', I', T⟩, n, run⟩ := lp
  refine ⟨r, cc, o', V', b2, b3, b4, b5, b6, b10, b11, I', T, fun post h => ?_⟩
  unfold wpX_prune
  exact br_f (nI_pos (by omega)) (br_t (nI_le (a := pl) (b := 999) (by omega) (by omega)) ⟨n, run post h⟩)
end
section
/-! the law's turn -/
def sy_S (c : Nat) (o : Nat → Nat) (V : Nat → Nat → Option Int32) (u : St1) : Prop := match u with
  | (lm, ct, td, a1, a2, a3, a4, a5, a6, a7, a8, a9, a10, a11) => ct = nI c ∧ sy_I c o V lm a1 a2 a3 a4 a5 a6 a9 a10
theorem sy_S_mk {c : Nat} {o : Nat → Nat} {V : Nat → Nat → Option Int32} {lm td : Int32} {a1 a2 a3 a4 a5 a6 a7 a8 a9 a10 a11 : Nat → Int32} (I : sy_I c o V lm a1 a2 a3 a4 a5 a6 a9 a10) : sy_S c o V (lm, nI c, td, a1, a2, a3, a4, a5, a6, a7, a8, a9, a10, a11) := And.intro rfl I
theorem sy_S_el {c : Nat} {o : Nat → Nat} {V : Nat → Nat → Option Int32} {lm ct td : Int32} {a1 a2 a3 a4 a5 a6 a7 a8 a9 a10 a11 : Nat → Int32} (h : sy_S c o V (lm, ct, td, a1, a2, a3, a4, a5, a6, a7, a8, a9, a10, a11)) : ct = nI c ∧ sy_I c o V lm a1 a2 a3 a4 a5 a6 a9 a10 := h
theorem sy_turn {c : Nat} {o : Nat → Nat} {V : Nat → Nat → Option Int32} {op f : Nat} (d e : Int32) (hop : op < 12) (hf : f < 16) {lm td : Int32} {a1 a2 a3 a4 a5 a6 a7 a8 a9 a10 a11 : Nat → Int32} (I : sy_I c o V lm a1 a2 a3 a4 a5 a6 a9 a10) :
    ∃ u' c' o' V', sy_S c' o' V' u' ∧ c ≤ c' ∧ (∀ q, q < c → V' q = V q) ∧ ∀ post : St1 → Prop, post u' → wpL_turn post (lm, nI c, td, a1, a2, a3, a4, a5, a6, a7, a8, a9, a10, a11) (nI op) (nI f) d e := by
  obtain ⟨g, hg, eg⟩ := pk_andE d (m := 15) 4 (by decide)
  have hg' : g < 16 := hg
  by_cases o1 : op < 3
  · obtain ⟨r, lm', a1', a9', R, run⟩ := sy_put hf e lm (nI c) td a1 a2 a3 a4 a5 a6 a7 a8 a9 a10 a11
    exact ⟨_, c, o, V, sy_S_mk (td := td) (a7 := a7) (a8 := a8) (a11 := a11) (sy_R_I I R), Nat.le_refl c, fun _ _ => rfl, fun post h => nm_r eg (pk_le 3 op (fun z => absurd z (by omega)) (fun _ => run _ h))⟩
  by_cases o2 : op = 3
  · obtain ⟨r, lm', a1', a9', R, run⟩ := sy_delete hf lm (nI c) td a1 a2 a3 a4 a5 a6 a7 a8 a9 a10 a11
    exact ⟨_, c, o, V, sy_S_mk (td := td) (a7 := a7) (a8 := a8) (a11 := a11) (sy_R_I I R), Nat.le_refl c, fun _ _ => rfl, fun post h => nm_r eg (pk_le 3 op (fun _ => pk_eq op 3 (fun _ => run _ h) (fun z => absurd o2 z)) (fun z => absurd z (by omega)))⟩
  by_cases o3 : op = 4
  · obtain ⟨r, lm', a1', a9', R, run⟩ := sy_rename hf hg' lm (nI c) td a1 a2 a3 a4 a5 a6 a7 a8 a9 a10 a11
    exact ⟨_, c, o, V, sy_S_mk (td := td) (a7 := a7) (a8 := a8) (a11 := a11) (sy_R_I I R), Nat.le_refl c, fun _ _ => rfl, fun post h => nm_r eg (pk_le 3 op (fun _ => pk_eq op 3 (fun z => absurd z o2) (fun _ => pk_eq op 4 (fun _ => run _ h) (fun z => absurd o3 z))) (fun z => absurd z (by omega)))⟩
  by_cases o4 : op = 5
  · obtain ⟨r, lm', a1', a9', R, run⟩ := sy_rewrite hf d e lm (nI c) td a1 a2 a3 a4 a5 a6 a7 a8 a9 a10 a11
    exact ⟨_, c, o, V, sy_S_mk (td := td) (a7 := a7) (a8 := a8) (a11 := a11) (sy_R_I I R), Nat.le_refl c, fun _ _ => rfl, fun post h => nm_r eg (pk_le 3 op (fun _ => pk_eq op 3 (fun z => absurd z o2) (fun _ => pk_eq op 4 (fun z => absurd z o3) (fun _ => pk_eq op 5 (fun _ => run _ h) (fun z => absurd o4 z)))) (fun z => absurd z (by omega)))⟩
  by_cases o5 : op = 6
  · obtain ⟨r, td', run⟩ := sy_advance (1 + (d &&& 7)) lm (nI c) td a1 a2 a3 a4 a5 a6 a7 a8 a9 a10 a11
    exact ⟨_, c, o, V, sy_S_mk (td := td') (a7 := a7) (a8 := a8) (a11 := a11) I, Nat.le_refl c, fun _ _ => rfl, fun post h => nm_r eg (pk_le 3 op (fun _ => pk_eq op 3 (fun z => absurd z o2) (fun _ => pk_eq op 4 (fun z => absurd z o3) (fun _ => pk_eq op 5 (fun z => absurd z o4) (fun _ => pk_eq op 6 (fun _ => run _ h) (fun z => absurd o5 z))))) (fun z => absurd z (by omega)))⟩
  have go : ∀ post : St1 → Prop, (((10 ≤ nI op → (((nI op = 10 → (wpX_restoreFile (fun _ u => match u with | (ml, tc, dt, b1, b2, b3, b4, b5, b6, b7, b8, b9, b10, b11) => (post (ml, tc, dt, b1, b2, b3, b4, b5, b6, b7, b8, b9, b10, b11))) (lm, nI c, td, a1, a2, a3, a4, a5, a6, a7, a8, a9, a10, a11) (nI g) (nI f))) ∧ (¬ nI op = 10 → (wpX_pin (fun _ u => match u with | (ml, tc, dt, b1, b2, b3, b4, b5, b6, b7, b8, b9, b10, b11) => (post (ml, tc, dt, b1, b2, b3, b4, b5, b6, b7, b8, b9, b10, b11))) (lm, nI c, td, a1, a2, a3, a4, a5, a6, a7, a8, a9, a10, a11) (nI g) (e &&& 1)))))) ∧ (¬ 10 ≤ nI op → (¬ (3 : Int32) = 0 ∧ (wpX_take (fun _ u => match u with | (ml, tc, dt, b1, b2, b3, b4, b5, b6, b7, b8, b9, b10, b11) => (post (ml, tc, dt, b1, b2, b3, b4, b5, b6, b7, b8, b9, b10, b11))) (lm, nI c, td, a1, a2, a3, a4, a5, a6, a7, a8, a9, a10, a11) ((d &&& 3) - (d &&& 3) / 3 * 3)))))) → wpL_turn post (lm, nI c, td, a1, a2, a3, a4, a5, a6, a7, a8, a9, a10, a11) (nI op) (nI f) d e :=
    fun post h => nm_r eg (pk_le 3 op (fun _ => pk_eq op 3 (fun z => absurd z o2) (fun _ => pk_eq op 4 (fun z => absurd z o3) (fun _ => pk_eq op 5 (fun z => absurd z o4) (fun _ => pk_eq op 6 (fun z => absurd z o5) (fun _ => h))))) (fun z => absurd z (by omega)))
  by_cases o6 : op < 10
  · obtain ⟨g3, hg3, eg3⟩ := pk_andE d (m := 3) 2 (by decide)
    have hg3' : g3 < 4 := hg3
    have er : (d &&& 3) - (d &&& 3) / 3 * 3 = nI (g3 % 3) := by
      rw [eg3]
      exact pk_rem (a := g3) (d := 3) (by omega) (by omega) (by omega)
    rcases sy_take (w := g3 % 3) (td := td) (a7 := a7) (a8 := a8) (a11 := a11) I (by omega) with run | ⟨o', V', a2', a3', a4', a5', a6', a7', a8', a9', a10', I', k1, k2, run⟩
    · refine ⟨_, c, o, V, sy_S_mk (td := td) (a7 := a7) (a8 := a8) (a11 := a11) I, Nat.le_refl c, fun _ _ => rfl, fun post h => go post (pk_le 10 op (fun z => absurd z (by omega)) (fun _ => ⟨by decide, ?_⟩))⟩
      rw [er]
      exact run _ h
    · refine ⟨_, c + 1, o', V', sy_S_mk (td := td) (a7 := a7') (a8 := a8') (a11 := a11) I', by omega, k1, fun post h => go post (pk_le 10 op (fun z => absurd z (by omega)) (fun _ => ⟨by decide, ?_⟩))⟩
      rw [er]
      exact run _ h
  by_cases o7 : op = 10
  · obtain ⟨r, lm', a1', a9', R, run⟩ := sy_restoreFile (td := td) (a7 := a7) (a8 := a8) (a11 := a11) I hg' hf
    exact ⟨_, c, o, V, sy_S_mk (td := td) (a7 := a7) (a8 := a8) (a11 := a11) (sy_R_I I R), Nat.le_refl c, fun _ _ => rfl, fun post h => go post (pk_le 10 op (fun _ => pk_eq op 10 (fun _ => run _ h) (fun z => absurd o7 z)) (fun z => absurd z (by omega)))⟩
  · obtain ⟨r, a8', run⟩ := sy_pin (e &&& 1) (td := td) (a7 := a7) (a8 := a8) (a11 := a11) I hg'
    exact ⟨_, c, o, V, sy_S_mk (td := td) (a7 := a7) (a8 := a8') (a11 := a11) I, Nat.le_refl c, fun _ _ => rfl, fun post h => go post (pk_le 10 op (fun _ => pk_eq op 10 (fun z => absurd z o7) (fun _ => run _ h)) (fun z => absurd z (by omega)))⟩
theorem sy_rem3 (x : Int32) (h : 0 ≤ x - x / 3 * 3) : ∃ w, w < 3 ∧ x - x / 3 * 3 = nI w := by
  have z0 : (0 : Int32).toInt = 0 := by decide
  by_cases hx : x < 0
  · have hx' : x.toInt < 0 := by
      rw [Int32.lt_iff_toInt_lt, z0] at hx
      exact hx
    have lo := Int32.le_toInt x
    have e3 : (3 : Int32).toInt = 3 := by decide
    obtain ⟨s, hs⟩ : ∃ s : Int, x.toInt = -s := ⟨-x.toInt, by omega⟩
    have d : (x / 3).toInt = -(s / 3) := by
      rw [Int32.toInt_div, e3, hs, Int.neg_tdiv, Int.tdiv_eq_ediv_of_nonneg (by omega)]
      exact Int.bmod_eq_of_le (by omega) (by omega)
    have m : (x / 3 * 3).toInt = -(s / 3) * 3 := by
      rw [Int32.toInt_mul, d, e3]
      exact Int.bmod_eq_of_le (by omega) (by omega)
    have r : (x - x / 3 * 3).toInt = -s - -(s / 3) * 3 := by
      rw [Int32.toInt_sub, m, hs]
      exact Int.bmod_eq_of_le (by omega) (by omega)
    rw [Int32.le_iff_toInt_le, r, z0] at h
    refine ⟨0, by omega, Int32.toInt_inj.mp ?_⟩
    rw [r, nI_0, z0]
    omega
  · obtain ⟨j, hj, e⟩ := nI_of hx
    subst e
    exact ⟨j % 3, by omega, pk_rem (a := j) (d := 3) hj (by omega) (by omega)⟩
theorem sy_neg {x : Int32} {p : Nat} (h : x < 0) (hp : p < 2 ^ 31) : x ≤ nI p ∧ ¬ x = nI p := by
  have z0 : (0 : Int32).toInt = 0 := by decide
  have e := nI_toInt hp
  rw [Int32.lt_iff_toInt_lt, z0] at h
  refine ⟨?_, fun z => ?_⟩
  · rw [Int32.le_iff_toInt_le, e]
    omega
  · rw [z, e] at h
    omega
end
section
/-! the law -/
abbrev sy_K34 : Type := Int32 → Int32 → Int32 → Int32 → Int32 → Int32 → (Nat → Int32) → (Nat → Int32) → (Nat → Int32) → (Nat → Int32) → (Nat → Int32) → (Nat → Int32) → (Nat → Int32) → (Nat → Int32) → (Nat → Int32) → (Nat → Int32) → (Nat → Int32) → Int32 → Int32 → Int32 → (Nat → Int32) → (Nat → Int32) → (Nat → Int32) → (Nat → Int32) → (Nat → Int32) → (Nat → Int32) → (Nat → Int32) → (Nat → Int32) → (Nat → Int32) → (Nat → Int32) → (Nat → Int32) → Prop
def sy_ap (J : sy_K34) (x4 x5 x6 : Int32) (ua ub : St1) : Prop := match ua, ub with
  | (lm, ct, td, a1, a2, a3, a4, a5, a6, a7, a8, a9, a10, a11), (ml, tc, dt, b1, b2, b3, b4, b5, b6, b7, b8, b9, b10, b11) => J x4 x5 x6 lm ct td a1 a2 a3 a4 a5 a6 a7 a8 a9 a10 a11 ml tc dt b1 b2 b3 b4 b5 b6 b7 b8 b9 b10 b11
/-- place and taken against the two objects: as long as nothing is taken they are one and the same; then the point at place holds the other's live set -/
def sy_LI (x4 x5 : Int32) (ua ub : St1) : Prop := ∃ c o V, sy_S c o V ua ∧ ((x5 = 0 ∧ x4 < 0 ∧ ub = ua) ∨ (¬ x5 = 0 ∧ (x4 < 0 ∨ ∃ p, p < c ∧ x4 = nI p ∧ ∀ f, f < 16 → V p f = sy_lv ub.1 ub.2.2.2.1 f)))
theorem sy_333 {post : Int32 → Prop} {L : Nat} {xs : Nat → Int32} {J : sy_K34} {x3 x4 x5 x6 : Int32} {kc ks : Nat} {lm ct td : Int32} {a1 a2 a3 a4 a5 a6 a7 a8 a9 a10 a11 : Nat → Int32} {ml tc dt : Int32} {b1 b2 b3 b4 b5 b6 b7 b8 b9 b10 b11 : Nat → Int32} (hI : sy_LI x4 x5 (lm, ct, td, a1, a2, a3, a4, a5, a6, a7, a8, a9, a10, a11) (ml, tc, dt, b1, b2, b3, b4, b5, b6, b7, b8, b9, b10, b11)) (hJ : J x4 x5 (x6 + 3) lm ct td a1 a2 a3 a4 a5 a6 a7 a8 a9 a10 a11 ml tc dt b1 b2 b3 b4 b5 b6 b7 b8 b9 b10 b11) : wL_law_333 post L xs J x3 x4 x5 x6 kc ks lm ct td a1 a2 a3 a4 a5 a6 a7 a8 a9 a10 a11 ml tc dt b1 b2 b3 b4 b5 b6 b7 b8 b9 b10 b11 := by
  by_cases h : x4 < 0
  · exact br_t h (nm_e hJ)
  · obtain ⟨c, o, V, S, A | ⟨_, B | ⟨p, hp, e, hv⟩⟩⟩ := hI
    · exact absurd A.2.1 h
    · exact absurd B h
    · obtain ⟨e2, I⟩ := sy_S_el S
      subst e2
      subst e
      exact br_f h (sy_holds I hp hv (br_f (by decide) (nm_e hJ)))
theorem sy_287 {post : Int32 → Prop} {L : Nat} {xs : Nat → Int32} {J : sy_K34} {x3 x4 x5 x6 x9 : Int32} {kc ks : Nat} {lm ct td : Int32} {a1 a2 a3 a4 a5 a6 a7 a8 a9 a10 a11 : Nat → Int32} {ml tc dt : Int32} {b1 b2 b3 b4 b5 b6 b7 b8 b9 b10 b11 : Nat → Int32} (hI : sy_LI x4 x5 (lm, ct, td, a1, a2, a3, a4, a5, a6, a7, a8, a9, a10, a11) (ml, tc, dt, b1, b2, b3, b4, b5, b6, b7, b8, b9, b10, b11)) (hJ : ∀ y4 y5 ua ub, sy_LI y4 y5 ua ub → sy_ap J y4 y5 (x6 + 3) ua ub) : wL_law_287 post L xs J x3 x4 x5 x6 x9 kc ks lm ct td a1 a2 a3 a4 a5 a6 a7 a8 a9 a10 a11 ml tc dt b1 b2 b3 b4 b5 b6 b7 b8 b9 b10 b11 := by
  have h333 : wL_law_333 post L xs J x3 x4 x5 x6 kc ks lm ct td a1 a2 a3 a4 a5 a6 a7 a8 a9 a10 a11 ml tc dt b1 b2 b3 b4 b5 b6 b7 b8 b9 b10 b11 := sy_333 hI (hJ x4 x5 (lm, ct, td, a1, a2, a3, a4, a5, a6, a7, a8, a9, a10, a11) (ml, tc, dt, b1, b2, b3, b4, b5, b6, b7, b8, b9, b10, b11) hI)
  by_cases h5 : x5 = 0
  · have go : ∀ w, w < 3 → wL_law_316 post L xs J x3 x6 (nI w) kc ks lm ct td a1 a2 a3 a4 a5 a6 a7 a8 a9 a10 a11 ml tc dt b1 b2 b3 b4 b5 b6 b7 b8 b9 b10 b11 := by
      intro w hw
      obtain ⟨c, o, V, S, A | B⟩ := hI
      · obtain ⟨e2, I⟩ := sy_S_el S
        subst e2
        cases A.2.2
        have hc := I.1
        unfold wL_law_316
        rcases sy_take (td := td) (a7 := a7) (a8 := a8) (a11 := a11) I hw with run | ⟨o', V', a2', a3', a4', a5', a6', a7', a8', a9', a10', I', k1, k2, run⟩
        · have LI : sy_LI (-2) 0 (lm, nI c, td, a1, a2, a3, a4, a5, a6, a7, a8, a9, a10, a11) (lm, nI c, td, a1, a2, a3, a4, a5, a6, a7, a8, a9, a10, a11) := ⟨c, o, V, sy_S_mk I, Or.inl ⟨rfl, by decide, rfl⟩⟩
          exact run _ (br_t (by decide) (sy_333 LI (hJ _ _ _ _ LI)))
        · have LI : sy_LI (nI c) 1 (lm, nI (c + 1), td, a1, a2', a3', a4', a5', a6', a7', a8', a9', a10', a11) (lm, nI c, td, a1, a2, a3, a4, a5, a6, a7, a8, a9, a10, a11) := ⟨c + 1, o', V', sy_S_mk I', Or.inr ⟨by decide, Or.inr ⟨c, by omega, rfl, fun f _ => by rw [k2]⟩⟩⟩
          exact run _ (br_f (nI_pos (by omega)) (sy_333 LI (hJ _ _ _ _ LI)))
      · exact absurd h5 B.1
    refine br_t h5 (br_c (fun _ => h333) (fun _ => ⟨by decide, br_c (fun z => ⟨by decide, ?_⟩) (fun _ => go 0 (by omega))⟩))
    obtain ⟨w, hw, e⟩ := sy_rem3 x9 z
    rw [e]
    exact go w hw
  · exact br_f h5 h333
theorem sy_cell {post : Int32 → Prop} {L : Nat} {xs : Nat → Int32} {x : Int32} {k : Nat} (hL : L ≤ 260) (hk : k < 1000) (e : x = nI k) (h : ∀ v, post v) : wpL_cell post L xs () x := by
  subst e
  exact pk_le L k (fun _ => h 0) (fun z => ⟨pk_in k L z, h _⟩)
theorem sy_restore0 {c p : Nat} {lm td : Int32} {a1 a2 a3 a4 a5 a6 a7 a8 a9 a10 a11 : Nat → Int32} {post : Int32 → St1 → Prop} (hp : c ≤ p) (hq : p < 16) (h : post (-1) (lm, nI c, td, a1, a2, a3, a4, a5, a6, a7, a8, a9, a10, a11)) : wpX_restore post (lm, nI c, td, a1, a2, a3, a4, a5, a6, a7, a8, a9, a10, a11) (nI p) := by
  unfold wpX_restore
  exact sy_p0 hp hq (br_t rfl h)
theorem sy_init {post : St1 → Prop} (h : post (0, 0, 0, (fun _ => 0), (fun _ => 0), (fun _ => 0), (fun _ => 0), (fun _ => 0), (fun _ => 0), (fun _ => 0), (fun _ => 0), (fun _ => 0), (fun _ => 0), (fun _ => 0))) : wpX_init post 11 366 (0, 0, 0) := by
  unfold wpX_init
  exact ⟨by decide, by decide, by decide, by decide, by decide, by decide, by decide, by decide, by decide, by decide, by decide, by decide, by decide, by decide, by decide, by decide, by decide, by decide, by decide, by decide, by decide, by decide, h⟩
theorem sy_34 {xs : Nat → Int32} {L kc ks : Nat} {x3 : Int32} (hL : L ≤ 260) : ∀ n k x4 x5 ua ub, L - k < n → k ≤ 400 → sy_LI x4 x5 ua ub → sy_ap (wL_law_34 (fun r => r = 1) L xs x3 kc ks n) x4 x5 (nI k) ua ub := by
  intro n
  induction n with
  | zero =>
    intro k x4 x5 ua ub hk
    omega
  | succ n ih =>
    intro k x4 x5 ua ub hk hk2 hI
    obtain ⟨lm, ct, td, a1, a2, a3, a4, a5, a6, a7, a8, a9, a10, a11⟩ := ua
    obtain ⟨ml, tc, dt, b1, b2, b3, b4, b5, b6, b7, b8, b9, b10, b11⟩ := ub
    show wL_law_34 (fun r => r = 1) L xs x3 kc ks (n + 1) x4 x5 (nI k) lm ct td a1 a2 a3 a4 a5 a6 a7 a8 a9 a10 a11 ml tc dt b1 b2 b3 b4 b5 b6 b7 b8 b9 b10 b11
    refine pk_le L k (fun _ => rfl) (fun hkL => ?_)
    have hJ : ∀ y4 y5 va vb, sy_LI y4 y5 va vb → sy_ap (wL_law_34 (fun r => r = 1) L xs x3 kc ks n) y4 y5 (nI k + 3) va vb := by
      intro y4 y5 va vb h
      rw [show nI k + 3 = nI (k + 3) from nI_add k 3]
      exact ih (k + 3) y4 y5 va vb (by omega) (by omega) h
    refine sy_cell (k := k) hL (by omega) rfl (fun v => sy_cell (k := k + 1) hL (by omega) (nI_1 k) (fun d => sy_cell (k := k + 2) hL (by omega) (nI_add k 2) (fun e => ?_)))
    obtain ⟨op, hop, eop⟩ := pk_andE v (m := 15) 4 (by decide)
    obtain ⟨f, hf, ef⟩ := pk_andE (v >>> ((4 : Int32) &&& 31)) (m := 15) 4 (by decide)
    obtain ⟨p, hp, ep⟩ := pk_andE d (m := 15) 4 (by decide)
    have hop' : op < 16 := hop
    have hf' : f < 16 := hf
    have hp' : p < 16 := hp
    obtain ⟨c, o, V, S, D⟩ := hI
    obtain ⟨e2, I⟩ := sy_S_el S
    subst e2
    have hc := I.1
    refine nm_r eop (nm_r ef (pk_le 12 op (fun h12 => pk_eq op 12 (fun _ => ?_) (fun n12 => pk_le 15 op (fun _ => ⟨by decide, ?_⟩) (fun _ => nm_r ep ?_))) (fun h12 => ?_)))
    · rw [ep]
      by_cases hpc : p < c
      · obtain ⟨m, lm', a1', a9', hm, R, Lv, run⟩ := sy_restore1 (td := td) (a7 := a7) (a8 := a8) (a11 := a11) I hpc
        have I' := sy_R_I I R
        have fin : wL_law_161 (fun r => r = 1) L xs (wL_law_34 (fun r => r = 1) L xs x3 kc ks n) x3 x4 x5 (nI k) d e kc ks lm' (nI c) td a1' a2 a3 a4 a5 a6 a7 a8 a9' a10 a11 ml tc dt b1 b2 b3 b4 b5 b6 b7 b8 b9 b10 b11 := by
          unfold wL_law_161
          rw [ep]
          rcases D with ⟨e5, e4, eu⟩ | ⟨e5, B⟩
          · cases eu
            exact br_t e5 (run _ (sy_287 ⟨c, o, V, sy_S_mk I', Or.inl ⟨e5, e4, rfl⟩⟩ hJ))
          · exact br_f e5 (sy_287 ⟨c, o, V, sy_S_mk I', Or.inr ⟨e5, B⟩⟩ hJ)
        exact run _ (br_f (nI_pos (by omega)) (sy_since I' hpc (fun g hg => (Lv g hg).symm) (br_t rfl fin)))
      · have fin : wL_law_161 (fun r => r = 1) L xs (wL_law_34 (fun r => r = 1) L xs x3 kc ks n) x3 x4 x5 (nI k) d e kc ks lm (nI c) td a1 a2 a3 a4 a5 a6 a7 a8 a9 a10 a11 ml tc dt b1 b2 b3 b4 b5 b6 b7 b8 b9 b10 b11 := by
          unfold wL_law_161
          rw [ep]
          rcases D with ⟨e5, e4, eu⟩ | ⟨e5, B⟩
          · cases eu
            exact br_t e5 (sy_restore0 (by omega) hp' (sy_287 ⟨c, o, V, sy_S_mk I, Or.inl ⟨e5, e4, rfl⟩⟩ hJ))
          · exact br_f e5 (sy_287 ⟨c, o, V, sy_S_mk I, Or.inr ⟨e5, B⟩⟩ hJ)
        exact sy_restore0 (by omega) hp' (br_t (by decide) fin)
    · obtain ⟨g, hg, eg⟩ := pk_andE d (m := 1023) 10 (by decide)
      have hg' : g < 1024 := hg
      have er : (d &&& 1023) - (d &&& 1023) / 1000 * 1000 = nI (g % 1000) := by
        rw [eg]
        exact pk_rem (a := g) (d := 1000) (by omega) (by omega) (by omega)
      obtain ⟨r, cc, o', V', a2', a3', a4', a5', a6', a10', a11', I', T, run⟩ := sy_prune (pl := g % 1000) (td := td) (a7 := a7) (a8 := a8) (a11 := a11) I (by omega)
      refine nm_r er ?_
      rcases D with ⟨e5, e4, eu⟩ | ⟨e5, B | ⟨q, hq, e4, hv⟩⟩
      · cases eu
        exact br_t e4 (run _ (br_t e5 (run _ (sy_287 ⟨cc, o', V', sy_S_mk I', Or.inl ⟨e5, by decide, rfl⟩⟩ hJ))))
      · exact br_t B (run _ (br_f e5 (sy_287 ⟨cc, o', V', sy_S_mk I', Or.inr ⟨e5, Or.inl (by decide)⟩⟩ hJ)))
      · subst e4
        refine sy_after I hq (by omega) (fun hk => run _ (br_f e5 (sy_287 ⟨cc, o', V', sy_S_mk I', Or.inr ⟨e5, Or.inr ⟨_, (T q hq hk).1, rfl, fun g hg => ?_⟩⟩⟩ hJ))) (fun hk => run _ (br_f e5 (sy_287 ⟨cc, o', V', sy_S_mk I', Or.inr ⟨e5, Or.inl (by decide)⟩⟩ hJ)))
        rw [(T q hq hk).2]
        exact hv g hg
    · rcases sy_forget (td := td) (a7 := a7) (a8 := a8) (a11 := a11) I hp' with ⟨r, hr, run⟩ | ⟨hpc, a2', a3', a4', a5', a6', a10', I', run⟩
      · refine run _ (br_t hr ?_)
        rcases D with ⟨e5, e4, eu⟩ | ⟨e5, B⟩
        · cases eu
          exact br_t e5 (run _ (sy_287 ⟨c, o, V, sy_S_mk I, Or.inl ⟨e5, e4, rfl⟩⟩ hJ))
        · exact br_f e5 (sy_287 ⟨c, o, V, sy_S_mk I, Or.inr ⟨e5, B⟩⟩ hJ)
      · refine run _ (br_f (nI_pos (by omega)) ?_)
        rcases D with ⟨e5, e4, eu⟩ | ⟨e5, B | ⟨q, hq, e4, hv⟩⟩
        · cases eu
          obtain ⟨n1, n2⟩ := sy_neg e4 (show p < 2 ^ 31 by omega)
          exact br_t n1 (br_f n2 (br_t e5 (run _ (sy_287 ⟨c - 1, _, _, sy_S_mk I', Or.inl ⟨e5, e4, rfl⟩⟩ hJ))))
        · obtain ⟨n1, n2⟩ := sy_neg B (show p < 2 ^ 31 by omega)
          exact br_t n1 (br_f n2 (br_f e5 (sy_287 ⟨c - 1, _, _, sy_S_mk I', Or.inr ⟨e5, Or.inl B⟩⟩ hJ)))
        · subst e4
          refine pk_le q p (fun h => pk_eq q p (fun _ => br_f e5 (sy_287 ⟨c - 1, _, _, sy_S_mk I', Or.inr ⟨e5, Or.inl (by decide)⟩⟩ hJ)) (fun hne => br_f e5 (sy_287 ⟨c - 1, _, _, sy_S_mk I', Or.inr ⟨e5, Or.inr ⟨q, by omega, rfl, fun g hg => ?_⟩⟩⟩ hJ))) (fun h => br_f e5 (sy_287 ⟨c - 1, _, _, sy_S_mk I', Or.inr ⟨e5, Or.inr ⟨q - 1, by omega, pk_sub (a := q) (b := 1) (by omega), fun g hg => ?_⟩⟩⟩ hJ))
          · show V (sy_sh p q) g = _
            rw [show sy_sh p q = q from if_pos (by omega)]
            exact hv g hg
          · show V (sy_sh p (q - 1)) g = _
            rw [show sy_sh p (q - 1) = q from (if_neg (by omega)).trans (by omega)]
            exact hv g hg
    · obtain ⟨u', c', o', V', S', hc', hV', run⟩ := sy_turn d e h12 hf' (td := td) (a7 := a7) (a8 := a8) (a11 := a11) I
      obtain ⟨mm, cu, du, w1, w2, w3, w4, w5, w6, w7, w8, w9, w10, w11⟩ := u'
      refine run _ ?_
      rcases D with ⟨e5, e4, eu⟩ | ⟨e5, B⟩
      · cases eu
        exact br_t e5 (run _ (sy_287 ⟨c', o', V', S', Or.inl ⟨e5, e4, rfl⟩⟩ hJ))
      · refine br_f e5 (sy_287 ⟨c', o', V', S', Or.inr ⟨e5, ?_⟩⟩ hJ)
        rcases B with B | ⟨q, hq, e4, hv⟩
        · exact Or.inl B
        · exact Or.inr ⟨q, by omega, e4, fun g hg => by rw [hV' q hq]; exact hv g hg⟩
theorem i_vc (xs : Nat → Int32) (L : Nat) (hL : L ≤ 260) : wpL_law (fun r => r = 1) L xs := by
  refine ⟨11, 366, by decide, by decide, sy_init ⟨by decide, by decide, 11, 366, by decide, by decide, sy_init (sy_cell (k := 0) hL (by omega) rfl (fun v => nm_e ⟨L + 1, ?_⟩))⟩⟩
  exact sy_34 hL (L + 1) 1 (-1) 0 (0, 0, 0, (fun _ => 0), (fun _ => 0), (fun _ => 0), (fun _ => 0), (fun _ => 0), (fun _ => 0), (fun _ => 0), (fun _ => 0), (fun _ => 0), (fun _ => 0), (fun _ => 0)) (0, 0, 0, (fun _ => 0), (fun _ => 0), (fun _ => 0), (fun _ => 0), (fun _ => 0), (fun _ => 0), (fun _ => 0), (fun _ => 0), (fun _ => 0), (fun _ => 0), (fun _ => 0)) (by omega) (by omega) ⟨0, fun _ => 0, fun _ _ => none, And.intro rfl (sy_I_0 (fun _ => rfl)), Or.inl ⟨rfl, by decide, rfl⟩⟩
end
