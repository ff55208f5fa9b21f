section
/-! ===== sets of six columns as naturals below 64 ===== -/
/-- x is a subset of y -/
def dd_sb (x y : Nat) : Prop := ∀ c, c < 6 → x.testBit c = true → y.testBit c = true
/-- x without y -/
def dd_df (x y : Nat) : Nat := x &&& (63 ^^^ y)
/-- how many columns -/
def dd_pc (x : Nat) : Nat := x % 2 + x / 2 % 2 + x / 4 % 2 + x / 8 % 2 + x / 16 % 2 + x / 32 % 2
theorem dd_and (a b : Nat) : nI a &&& nI b = nI (a &&& b) := by
  apply Int32.toBitVec_inj.1
  show BitVec.ofNat 32 a &&& BitVec.ofNat 32 b = BitVec.ofNat 32 (a &&& b)
  apply BitVec.eq_of_getLsbD_eq
  intro i hi
  simp [hi]
theorem dd_or (a b : Nat) : nI a ||| nI b = nI (a ||| b) := by
  apply Int32.toBitVec_inj.1
  show BitVec.ofNat 32 a ||| BitVec.ofNat 32 b = BitVec.ofNat 32 (a ||| b)
  apply BitVec.eq_of_getLsbD_eq
  intro i hi
  simp [hi]
theorem dd_63b : ∀ c, c < 6 → (63 : Nat).testBit c = true := by decide
theorem dd_dfb (x y : Nat) {c : Nat} (hc : c < 6) : (dd_df x y).testBit c = (x.testBit c && !y.testBit c) := by
  unfold dd_df
  rw [Nat.testBit_and, Nat.testBit_xor, dd_63b c hc, Bool.true_xor]
theorem dd_hi {x i : Nat} (hx : x < 64) (hi : 6 ≤ i) : x.testBit i = false :=
  Nat.testBit_lt_two_pow (Nat.lt_of_lt_of_le hx (Nat.pow_le_pow_right (n := 2) (by omega) hi))
theorem dd_ext {x y : Nat} (hx : x < 64) (hy : y < 64) (h : ∀ c, c < 6 → x.testBit c = y.testBit c) : x = y := by
  apply Nat.eq_of_testBit_eq
  intro i
  rcases Nat.lt_or_ge i 6 with z | z
  · exact h i z
  · rw [dd_hi hx z, dd_hi hy z]
theorem dd_andL {x : Nat} (y : Nat) (hx : x < 64) : x &&& y < 64 := Nat.lt_of_le_of_lt Nat.and_le_left hx
theorem dd_orL {x y : Nat} (hx : x < 64) (hy : y < 64) : x ||| y < 64 := Nat.or_lt_two_pow (n := 6) hx hy
theorem dd_dfL {x : Nat} (y : Nat) (hx : x < 64) : dd_df x y < 64 := dd_andL _ hx
theorem dd_pwL : ∀ c, c < 6 → 2 ^ c < 64 := by decide
theorem dd_dfI : ∀ x, x < 64 → ∀ y, y < 64 → nI x &&& (nI y ^^^ (-1)) = nI (dd_df x y) := by decide +kernel
theorem dd_df0 {x y : Nat} (hx : x < 64) : dd_df x y = 0 ↔ dd_sb x y := by
  constructor
  · intro h c hc hb
    have e := dd_dfb x y hc
    rw [h, Nat.zero_testBit, hb] at e
    revert e
    cases y.testBit c <;> simp
  · intro h
    apply dd_ext (dd_dfL y hx) (by omega)
    intro c hc
    rw [dd_dfb x y hc, Nat.zero_testBit]
    cases hb : x.testBit c
    · rfl
    · rw [h c hc hb]; rfl
/-- within, as printed -/
theorem dd_win {x y : Nat} (hx : x < 64) (hy : y < 64) : (nI x &&& (nI y ^^^ (-1))) = 0 ↔ dd_sb x y := by
  have hl := dd_dfL y hx
  rw [dd_dfI x hx y hy, ← nI_0, nI_eq (by omega) (by omega)]
  exact dd_df0 hx
theorem dd_bit : ∀ x, x < 64 → ∀ c, c < 6 → ((nI x >>> (nI c &&& 31)) &&& 1) = (if x.testBit c = true then 1 else 0) := by decide +kernel
theorem dd_b1 {z : Int32} {A B : Prop} (x c : Nat) (hz : z = ((nI x >>> (nI c &&& 31)) &&& 1)) (hx : x < 64) (hc : c < 6) (f : x.testBit c = true → A) (g : x.testBit c = false → B) : (z = 1 → A) ∧ (¬ z = 1 → B) := by
  rw [hz, dd_bit x hx c hc]
  cases h : x.testBit c
  · exact br_f (by decide) (g h)
  · exact br_t rfl (f h)
theorem dd_b0 {z : Int32} {A B : Prop} (x c : Nat) (hz : z = ((nI x >>> (nI c &&& 31)) &&& 1)) (hx : x < 64) (hc : c < 6) (f : x.testBit c = false → A) (g : x.testBit c = true → B) : (z = 0 → A) ∧ (¬ z = 0 → B) := by
  rw [hz, dd_bit x hx c hc]
  cases h : x.testBit c
  · exact br_t rfl (f h)
  · exact br_f (by decide) (g h)
theorem dd_sh : ∀ c, c < 6 → (1 : Int32) <<< (nI c &&& 31) = nI (2 ^ c) := by decide +kernel
theorem dd_al : ∀ x, x < 64 → ((nI x &&& (nI x - 1)) = 0 ↔ dd_pc x ≤ 1) := by decide +kernel
theorem dd_pc1 : ∀ x, x < 64 → dd_pc x ≤ 1 → ∀ c, c < 6 → x.testBit c = true → x = 2 ^ c := by decide +kernel
theorem dd_pcs : ∀ x, x < 64 → ∀ c, c < 6 → x.testBit c = true → dd_pc (dd_df x (2 ^ c)) + 1 = dd_pc x := by decide +kernel
theorem dd_pcp : ∀ x, x < 64 → x ≠ 0 → 1 ≤ dd_pc x := by decide +kernel
theorem dd_pc6 (x : Nat) : dd_pc x ≤ 6 := by unfold dd_pc; omega
theorem dd_pcw : ∀ c, c < 6 → dd_pc (2 ^ c) = 1 := by decide +kernel
theorem dd_2b : ∀ c, c < 6 → ∀ e, e < 6 → (2 ^ c).testBit e = decide (c = e) := by decide +kernel
theorem dd_2i : ∀ c, c < 6 → ∀ e, e < 6 → nI (2 ^ c) = nI (2 ^ e) → c = e := by decide +kernel
theorem dd_2a : ∀ c, c < 6 → ∀ e, e < 6 → 2 ^ c &&& 2 ^ e = 0 ∨ 2 ^ c &&& 2 ^ e = 2 ^ c := by decide +kernel
theorem dd_i1 : ∀ x, x < 64 → ∀ c, c < 6 → x.testBit c = true → x &&& 2 ^ c = 2 ^ c := by decide +kernel
theorem dd_i0 : ∀ x, x < 64 → ∀ c, c < 6 → x.testBit c = false → x &&& 2 ^ c = 0 := by decide +kernel
theorem dd_dt : ∀ x, x < 64 → ∀ c, c < 6 → (((nI x >>> (nI c &&& 31)) <<< ((31 : Int32) &&& 31)) = 0 ↔ x.testBit c = false) := by decide +kernel
theorem dd_ne {x : Nat} (hx : x < 64) (h : x ≠ 0) : ∃ c, c < 6 ∧ x.testBit c = true := by
  refine Classical.byContradiction (fun g => h (dd_ext hx (by omega) (fun c hc => ?_)))
  rw [Nat.zero_testBit]
  cases hb : x.testBit c
  · rfl
  · exact absurd ⟨c, hc, hb⟩ g
theorem dd_dj {x y c : Nat} (h : x &&& y = 0) (hx : x.testBit c = true) : y.testBit c = false := by
  have e := Nat.testBit_and x y c
  rw [h, Nat.zero_testBit, hx, Bool.true_and] at e
  exact e.symm
theorem dd_djI {x y : Nat} (hx : x < 64) (h : ∀ c, c < 6 → x.testBit c = true → y.testBit c = false) : x &&& y = 0 := by
  apply dd_ext (dd_andL y hx) (by omega)
  intro c hc
  rw [Nat.testBit_and, Nat.zero_testBit]
  cases hb : x.testBit c
  · rfl
  · rw [h c hc hb]; rfl
theorem dd_n0 : narrow .boolean (.int 0) = .int 0 := rfl
theorem dd_n1 : narrow .boolean (.int 1) = .int 1 := rfl
theorem dd_10 : ¬ (1 : Int32) = 0 := by decide
/-! ===== dependencies V d -> W d, d < 2; those of m count ===== -/
def dd_cl (V W : Nat → Nat) (m T : Nat) : Prop := ∀ d, d < 2 → m.testBit d = true → dd_sb (V d) T → dd_sb (W d) T
/-- y is the closure of x -/
def dd_is (V W : Nat → Nat) (m x y : Nat) : Prop := y < 64 ∧ dd_sb x y ∧ dd_cl V W m y ∧ ∀ T, dd_sb x T → dd_cl V W m T → dd_sb y T
def dd_det (V W : Nat → Nat) (m c : Nat) : Prop := ∃ d, d < 2 ∧ m.testBit d = true ∧ (W d).testBit c = true ∧ (V d).testBit c = false
/-- the last block R is parted by column c -/
def dd_sp (R v c : Nat) : Prop := R &&& v = 0 ∧ R.testBit c = true ∧ R ≠ 2 ^ c
/-- the basis: n blocks, the last is R, the others are single columns that are determined -/
def dd_J (V W : Nat → Nat) (m x n R : Nat) (bl : Nat → Int32) : Prop :=
  R < 64 ∧ n + dd_pc R ≤ 7 ∧ (n = 0 → R = 0) ∧ (∀ k, n = k + 1 → R ≠ 0 ∧ bl k = nI R) ∧
  (∀ k, k + 1 < n → ∃ c, c < 6 ∧ bl k = nI (2 ^ c) ∧ dd_det V W m c) ∧
  (∀ c, c < 6 → (R.testBit c = false ↔ (x.testBit c = true ∨ ∃ k, k + 1 < n ∧ bl k = nI (2 ^ c)))) ∧
  (∀ T, dd_sb x T → dd_cl V W m T → ∀ c, c < 6 → R.testBit c = false → T.testBit c = true)
theorem dd_Jn {V W : Nat → Nat} {m x n R : Nat} {bl : Nat → Int32} (J : dd_J V W m x n R bl) : n ≤ 6 := by
  obtain ⟨h1, h2, h3, h4, h5, h6, h7⟩ := J
  rcases n with _ | k
  · omega
  · have := dd_pcp R h1 (h4 k rfl).1
    omega
theorem dd_spn {R v c : Nat} (hR : R < 64) (hc : c < 6) (h : dd_sp R v c) : 2 ≤ dd_pc R := by
  obtain ⟨_, h1, h2⟩ := h
  rcases Nat.lt_or_ge (dd_pc R) 2 with z | z
  · exact absurd (dd_pc1 R hR (by omega) c hc h1) h2
  · exact z
theorem dd_Jstep {V W : Nat → Nat} {m x k R d c : Nat} {bl : Nat → Int32} (J : dd_J V W m x (k + 1) R bl) (hd : d < 2) (hm : m.testBit d = true) (hc : c < 6) (hw : (W d).testBit c = true) (hs : dd_sp R (V d) c) :
    dd_J V W m x (k + 1 + 1) (dd_df R (2 ^ c)) (upd (upd bl (k + 1) (nI (dd_df R (2 ^ c)))) k (nI (2 ^ c))) := by
  obtain ⟨h1, h2, h3, h4, h5, h6, h7⟩ := J
  have hp := dd_spn h1 hc hs
  obtain ⟨s1, s2, s3⟩ := hs
  have hq := dd_pcs R h1 c hc s2
  have hL := dd_dfL (2 ^ c) h1
  refine ⟨hL, by omega, fun z => absurd z (by omega), fun k' hk' => ⟨fun z => ?_, ?_⟩, fun k' hk' => ?_, fun e he => ?_, fun T hT hcl e he hb => ?_⟩
  · rw [z] at hq
    have : dd_pc 0 = 0 := by decide
    omega
  · have e : k' = k + 1 := by omega
    rw [e, pk_un (by omega), pk_us]
  · by_cases z : k' = k
    · rw [z, pk_us]
      exact ⟨c, hc, rfl, d, hd, hm, hw, dd_dj s1 s2⟩
    · rw [pk_un z, pk_un (by omega)]
      exact h5 k' (by omega)
  · rw [dd_dfb R (2 ^ c) he, dd_2b c hc e he]
    by_cases z : c = e
    · subst z
      rw [decide_eq_true rfl, Bool.not_true, Bool.and_false]
      exact ⟨fun _ => Or.inr ⟨k, by omega, pk_us⟩, fun _ => rfl⟩
    · rw [decide_eq_false z, Bool.not_false, Bool.and_true, h6 e he]
      constructor
      · rintro (g | ⟨k', g1, g2⟩)
        · exact Or.inl g
        · refine Or.inr ⟨k', by omega, ?_⟩
          rw [pk_un (by omega), pk_un (by omega)]
          exact g2
      · rintro (g | ⟨k', g1, g2⟩)
        · exact Or.inl g
        · by_cases y : k' = k
          · rw [y, pk_us] at g2
            exact absurd (dd_2i c hc e he g2) z
          · rw [pk_un y, pk_un (by omega)] at g2
            exact Or.inr ⟨k', by omega, g2⟩
  · cases hb' : R.testBit e
    · exact h7 T hT hcl e he hb'
    · rw [dd_dfb R (2 ^ c) he, dd_2b c hc e he, hb', Bool.true_and] at hb
      have z : c = e := by
        by_cases z : c = e
        · exact z
        · rw [decide_eq_false z] at hb
          exact absurd hb (by decide)
      subst z
      exact hcl d hd hm (fun f hf hv => h7 T hT hcl f hf (by
        cases hb2 : R.testBit f
        · rfl
        · exact absurd hv (by rw [dd_dj s1 hb2]; decide))) c hc hw
theorem dd_J1 {V W : Nat → Nat} {m x : Nat} {bl : Nat → Int32} (hx : x < 64) (h : x ≠ 63) : dd_J V W m x 1 (dd_df 63 x) (upd bl 0 (nI (dd_df 63 x))) := by
  have hL := dd_dfL x (show 63 < 64 by omega)
  have h6 := dd_pc6 (dd_df 63 x)
  have hb : ∀ c, c < 6 → (dd_df 63 x).testBit c = !x.testBit c := fun c hc => by rw [dd_dfb 63 x hc, dd_63b c hc, Bool.true_and]
  refine ⟨hL, by omega, fun z => absurd z (by omega), fun k hk => ⟨fun z => h ?_, ?_⟩, fun k hk => absurd hk (by omega), fun c hc => ?_, fun T hT _ c hc hR => ?_⟩
  · apply dd_ext hx (by omega)
    intro c hc
    have e := hb c hc
    rw [z, Nat.zero_testBit] at e
    rw [dd_63b c hc]
    revert e
    cases x.testBit c <;> simp
  · have e : k = 0 := by omega
    rw [e, pk_us]
  · rw [hb c hc]
    constructor
    · intro z
      exact Or.inl (by revert z; cases x.testBit c <;> simp)
    · rintro (z | ⟨k, hk, _⟩)
      · rw [z]; rfl
      · omega
  · rw [hb c hc] at hR
    exact hT c hc (by revert hR; cases x.testBit c <;> simp)
theorem dd_J0 {V W : Nat → Nat} {m : Nat} {bl : Nat → Int32} : dd_J V W m 63 0 0 bl := by
  refine ⟨by omega, by decide, fun _ => rfl, fun k hk => absurd hk (by omega), fun k hk => absurd hk (by omega), fun c hc => ?_, fun T hT _ c hc _ => hT c hc (dd_63b c hc)⟩
  exact ⟨fun _ => Or.inl (dd_63b c hc), fun _ => Nat.zero_testBit c⟩
/-- no counting dependency parts the last block -/
def dd_stab (V W : Nat → Nat) (m R : Nat) : Prop := ∀ d, d < 2 → m.testBit d = true → ∀ c, c < 6 → (W d).testBit c = true → ¬ dd_sp R (V d) c
theorem dd_stab6 {V W : Nat → Nat} {m x n R : Nat} {bl : Nat → Int32} (J : dd_J V W m x n R bl) (h : 6 ≤ n) : dd_stab V W m R := by
  obtain ⟨h1, h2, _⟩ := J
  intro d _ _ c hc _ hs
  have := dd_spn h1 hc hs
  omega
theorem dd_fin1 {V W : Nat → Nat} {m x n R c : Nat} {bl : Nat → Int32} (J : dd_J V W m x n R bl) (hx : x < 64) (hc : c < 6) (hR : R = 2 ^ c) (hd : dd_det V W m c) : dd_is V W m x 63 := by
  obtain ⟨h1, h2, h3, h4, h5, h6, h7⟩ := J
  obtain ⟨d, d1, d2, d3, d4⟩ := hd
  have hb : ∀ e, e < 6 → e ≠ c → R.testBit e = false := fun e he z => by
    rw [hR, dd_2b c hc e he]
    exact decide_eq_false (fun y => z y.symm)
  refine ⟨by omega, fun e he _ => dd_63b e he, fun d _ _ _ e he _ => dd_63b e he, fun T hT hcl e he _ => ?_⟩
  by_cases z : e = c
  · subst z
    refine hcl d d1 d2 (fun f hf hv => ?_) e he d3
    refine h7 T hT hcl f hf (hb f hf (fun y => ?_))
    subst y
    rw [hv] at d4
    exact absurd d4 (by decide)
  · exact h7 T hT hcl e he (hb e he z)
theorem dd_fin2 {V W : Nat → Nat} {m x n R o : Nat} {bl : Nat → Int32} (J : dd_J V W m x n R bl) (hx : x < 64) (hs : dd_stab V W m R) (ho : o < 64) (hb : ∀ c, c < 6 → (o.testBit c = true ↔ R.testBit c = false)) (hn : ∀ c, c < 6 → R = 2 ^ c → ¬ dd_det V W m c) : dd_is V W m x o := by
  obtain ⟨h1, h2, h3, h4, h5, h6, h7⟩ := J
  refine ⟨ho, fun c hc hxc => (hb c hc).mpr ((h6 c hc).mpr (Or.inl hxc)), fun d hd hm hv c hc hw => ?_, fun T hT hcl c hc hoc => h7 T hT hcl c hc ((hb c hc).mp hoc)⟩
  refine (hb c hc).mpr ?_
  cases hR : R.testBit c
  · rfl
  · have hvf : ∀ f, f < 6 → R.testBit f = true → (V d).testBit f = false := fun f hf hRf => by
      cases hvv : (V d).testBit f
      · rfl
      · have := (hb f hf).mp (hv f hf hvv)
        rw [hRf] at this
        exact absurd this (by decide)
    by_cases z : R = 2 ^ c
    · exact absurd ⟨d, hd, hm, hw, hvf c hc hR⟩ (hn c hc z)
    · exact absurd ⟨dd_djI h1 hvf, hR, z⟩ (hs d hd hm c hc hw)
theorem dd_isU {V W : Nat → Nat} {m x y y' : Nat} (h : dd_is V W m x y) (h' : dd_is V W m x y') : y = y' := by
  apply dd_ext h.1 h'.1
  intro c hc
  have g1 := h.2.2.2 y' h'.2.1 h'.2.2.1 c hc
  have g2 := h'.2.2.2 y h.2.1 h.2.2.1 c hc
  revert g1 g2
  cases y.testBit c <;> cases y'.testBit c <;> simp
end
section
section
variable {fc fm fb fs ft fk fp fr : Int32} {a1 a2 a3 a4 a5 a6 a7 a8 a9 a10 a11 a12 a13 a14 : Nat → Int32}
theorem dd_bad {post : Int32 → Prop} {x : Nat} (hx : x < 64) (H : post 0) : wpX_badSet post (fc, fm, fb, fs, ft, fk, fp, fr, a1, a2, a3, a4, a5, a6, a7, a8, a9, a10, a11, a12, a13, a14) (nI x) :=
  br_f (nI_pos (by omega)) (pk_le x 63 (fun _ => H) (fun z => absurd z (by omega)))
theorem dd_wI {post : Int32 → Prop} {x y : Nat} (hx : x < 64) (hy : y < 64) (H1 : dd_sb x y → post 1) (H0 : ¬ dd_sb x y → post 0) : wpX_within post (fc, fm, fb, fs, ft, fk, fp, fr, a1, a2, a3, a4, a5, a6, a7, a8, a9, a10, a11, a12, a13, a14) (nI x) (nI y) :=
  ek_if (dd_win hx hy) H1 H0
theorem dd_lo {post : Int32 → Prop} {c : Nat} (hc : c < 6) (H : post (nI c)) : wpX_lowestOf post (fc, fm, fb, fs, ft, fk, fp, fr, a1, a2, a3, a4, a5, a6, a7, a8, a9, a10, a11, a12, a13, a14) (nI (2 ^ c)) := by
  have h := pk_loopD (fun n i (s : Int32) => wX_lowestOf_4 post (nI (2 ^ c)) fc fm fb fs ft fk fp fr a1 a2 a3 a4 a5 a6 a7 a8 a9 a10 a11 a12 a13 a14 n s (nI i + (-1))) (fun i s => i ≤ 6 ∧ s = if i ≤ c then nI c else 0)
    (fun n s h => by
      have e := h.2
      rw [if_pos (Nat.zero_le c)] at e
      subst e
      exact br_t (by decide) H)
    (fun n i s h hw => by
      show wX_lowestOf_4 post (nI (2 ^ c)) fc fm fb fs ft fk fp fr a1 a2 a3 a4 a5 a6 a7 a8 a9 a10 a11 a12 a13 a14 (n + 1) s (nI (i + 1) + (-1))
      rw [pk_m1 i]
      refine br_f (nI_pos (by omega)) (dd_b1 (2 ^ c) i rfl (dd_pwL c hc) (by omega) (fun z => nm_e (hw _ ⟨by omega, ?_⟩)) (fun z => nm_e (hw _ ⟨by omega, ?_⟩)))
      · rw [dd_2b c hc i (by omega)] at z
        have e : c = i := of_decide_eq_true z
        rw [if_pos (by omega), e]
      · rw [dd_2b c hc i (by omega)] at z
        have e : ¬ c = i := of_decide_eq_false z
        rw [h.2]
        by_cases y : i + 1 ≤ c
        · rw [if_pos y, if_pos (by omega)]
        · rw [if_neg y, if_neg (by omega)]) 6 0 ⟨by omega, by rw [if_neg (by omega)]⟩
  exact ⟨7, h⟩
theorem dd_iD {post : Int32 → Prop} {V W : Nat → Nat} {m c : Nat} (hV : ∀ d, d < 2 → V d < 64 ∧ a1 d = nI (V d)) (hW : ∀ d, d < 2 → W d < 64 ∧ a2 d = nI (W d)) (h3 : ∀ d, d < 2 → a3 d = 0) (hm : m < 64) (hc : c < 6)
    (H1 : dd_det V W m c → post 1) (H0 : ¬ dd_det V W m c → post 0) : wpX_isDetermined post (2, nI m, fb, fs, ft, fk, fp, fr, a1, a2, a3, a4, a5, a6, a7, a8, a9, a10, a11, a12, a13, a14) (nI c) := by
  refine pk_loop (fun n i (s : Int32) => wX_isDetermined_4 post (nI c) 2 (nI m) fb fs ft fk fp fr a1 a2 a3 a4 a5 a6 a7 a8 a9 a10 a11 a12 a13 a14 n s (nI i)) (fun i s => (s = 0 ∧ ∀ d, d < i → ¬ (m.testBit d = true ∧ (W d).testBit c = true ∧ (V d).testBit c = false)) ∨ (s = 1 ∧ dd_det V W m c)) 2 0 0 (by omega) (Or.inl ⟨rfl, fun d hd => absurd hd (by omega)⟩) ?_ ?_
  · intro n s h
    rcases h with ⟨e, h⟩ | ⟨e, h⟩
    · subst e
      exact pk_le 2 2 (fun _ => ⟨rfl, H0 (fun ⟨d, hd, h'⟩ => h d hd h')⟩) (fun z => absurd z (by omega))
    · subst e
      exact pk_le 2 2 (fun _ => ⟨rfl, H1 h⟩) (fun z => absurd z (by omega))
  · intro n i s hi h hw
    have e : (nI i).toNatClampNeg = i := nI_clamp (by omega)
    have hL := dd_dfL (V i) (hW i hi).1
    refine pk_le 2 i (fun z => absurd z (by omega)) (fun _ => ⟨pk_in i 10 (by omega), pk_in i 10 (by omega), ?_⟩)
    rw [e, (hW i hi).2, (hV i hi).2, dd_dfI _ (hW i hi).1 _ (hV i hi).1]
    refine ek_if (dd_dt _ hL c hc) (fun z => ?_) (fun z => ?_)
    · rcases h with ⟨es, h⟩ | ⟨es, h⟩
      · subst es
        have hP : ¬ (m.testBit i = true ∧ (W i).testBit c = true ∧ (V i).testBit c = false) := fun ⟨_, q1, q2⟩ => by
          rw [dd_dfb _ _ hc, q1, q2] at z
          exact absurd z (by decide)
        have hn := hw 0 (Or.inl ⟨rfl, lt_s h hP⟩)
        exact br_t rfl (dd_b1 m i rfl hm (by omega) (fun zb => ⟨pk_in i 10 (by omega), br_t (by rw [e]; exact h3 i hi) (br_t rfl (nm_r (nI_1 i) hn))⟩) (fun zb => nm_r (nI_1 i) hn))
      · subst es
        exact br_f (by decide) (nm_r (nI_1 i) (hw 1 (Or.inr ⟨rfl, h⟩)))
    · rcases h with ⟨es, h⟩ | ⟨es, h⟩
      · subst es
        refine br_t rfl (dd_b1 m i rfl hm (by omega) (fun zb => ⟨pk_in i 10 (by omega), br_t (by rw [e]; exact h3 i hi) (br_f (by decide) (nm_r (nI_1 i) (hw 1 (Or.inr ⟨rfl, i, hi, zb, ?_⟩))))⟩) (fun zb => nm_r (nI_1 i) (hw 0 (Or.inl ⟨rfl, lt_s h (fun q => ?_)⟩))))
        · rw [dd_dfb _ _ hc] at z
          revert z
          cases (W i).testBit c <;> cases (V i).testBit c <;> simp
        · rw [zb] at q
          exact absurd q.1 (by decide)
      · subst es
        exact br_f (by decide) (nm_r (nI_1 i) (hw 1 (Or.inr ⟨rfl, h⟩)))
end
end
section
section
variable {fc fm fb fs ft fk fp fr : Int32} {a1 a2 a3 a4 a5 a6 a7 a8 a9 a10 a11 a12 a13 a14 : Nat → Int32}
theorem dd_sB {post : Int32 → St2 → Prop} {n k B w : Nat} (hn : n ≤ 6) (hk : k < 6) (hB : a4 k = nI B) (hB6 : B < 64) (hw : w < 64)
    (H0 : (B &&& w = 0 ∨ B &&& w = B) → post 0 (fc, fm, nI n, fs, ft, fk, fp, fr, a1, a2, a3, a4, a5, a6, a7, a8, a9, a10, a11, a12, a13, a14))
    (H1 : B &&& w ≠ 0 → B &&& w ≠ B → n < 6 ∧ post 1 (fc, fm, nI (n + 1), fs, ft, fk, fp, fr, a1, a2, a3, upd (upd a4 n (nI (dd_df B (B &&& w)))) k (nI (B &&& w)), a5, a6, a7, a8, a9, a10, a11, a12, a13, a14)) :
    wpX_splitBlock post (fc, fm, nI n, fs, ft, fk, fp, fr, a1, a2, a3, a4, a5, a6, a7, a8, a9, a10, a11, a12, a13, a14) (nI k) (nI w) := by
  have e : (nI k).toNatClampNeg = k := nI_clamp (by omega)
  have e' : (nI n).toNatClampNeg = n := nI_clamp (by omega)
  have hL := dd_andL w hB6
  refine ⟨pk_in k 6 hk, ?_⟩
  rw [e, e', hB, dd_and]
  refine nm_e ?_
  refine pk_eq (B &&& w) 0 (fun z => H0 (Or.inl z)) (fun z0 => ⟨pk_in k 6 hk, ?_⟩)
  refine pk_eq (B &&& w) B (fun z => H0 (Or.inr z)) (fun z1 => ⟨pk_in k 6 hk, pk_in n 6 (H1 z0 z1).1, ?_⟩)
  rw [dd_dfI B hB6 _ hL]
  exact nm_e ⟨pk_in k 6 hk, nm_e (nm_r (nI_1 n) (H1 z0 z1).2)⟩
theorem dd_sBy {post : Int32 → St2 → Prop} {n R v c : Nat} (hv : v < 64) (hc : c < 6) (hR : R < 64) (hn : n + dd_pc R ≤ 7) (h0 : n = 0 → R = 0) (hl : ∀ k, n = k + 1 → R ≠ 0 ∧ a4 k = nI R) (hs : ∀ k, k + 1 < n → ∃ e, e < 6 ∧ a4 k = nI (2 ^ e))
    (H0 : ¬ dd_sp R v c → post 0 (fc, fm, nI n, fs, ft, fk, fp, fr, a1, a2, a3, a4, a5, a6, a7, a8, a9, a10, a11, a12, a13, a14))
    (H1 : dd_sp R v c → ∀ k, n = k + 1 → post 1 (fc, fm, nI (n + 1), fs, ft, fk, fp, fr, a1, a2, a3, upd (upd a4 n (nI (dd_df R (2 ^ c)))) k (nI (2 ^ c)), a5, a6, a7, a8, a9, a10, a11, a12, a13, a14)) :
    wpX_splitBy post (fc, fm, nI n, fs, ft, fk, fp, fr, a1, a2, a3, a4, a5, a6, a7, a8, a9, a10, a11, a12, a13, a14) (nI v) (nI (2 ^ c)) := by
  have n6 : n ≤ 6 := by
    rcases n with _ | k
    · omega
    · have := dd_pcp R hR (hl k rfl).1
      omega
  have hp := dd_pwL c hc
  refine pk_loop (σ := Int32 × Int32 × (Nat → Int32)) (fun N i s => wX_splitBy_11 post (nI v) (nI (2 ^ c)) (nI n) N s.1 (nI i) fc fm s.2.1 fs ft fk fp fr a1 a2 a3 s.2.2 a5 a6 a7 a8 a9 a10 a11 a12 a13 a14)
    (fun i s => (i < n → s = (0, nI n, a4)) ∧ (i = n → (¬ dd_sp R v c ∧ s = (0, nI n, a4)) ∨ (dd_sp R v c ∧ ∃ k, n = k + 1 ∧ s = (1, nI (n + 1), upd (upd a4 n (nI (dd_df R (2 ^ c)))) k (nI (2 ^ c))))))
    n 0 (0, nI n, a4) (Nat.zero_le _) ⟨fun _ => rfl, fun h => Or.inl ⟨fun z => ?_, rfl⟩⟩ ?_ ?_
  · rw [h0 h.symm] at z
    exact absurd z.2.1 (by rw [Nat.zero_testBit]; decide)
  · intro N s h
    rcases h.2 rfl with ⟨h1, e⟩ | ⟨h1, k, hk, e⟩
    · subst e
      exact pk_le n n (fun _ => ⟨dd_n0, H0 h1⟩) (fun z => absurd z (by omega))
    · subst e
      exact pk_le n n (fun _ => ⟨dd_n1, H1 h1 k hk⟩) (fun z => absurd z (by omega))
  · intro N i s hi h hw
    have es := h.1 hi
    subst es
    have e : (nI i).toNatClampNeg = i := nI_clamp (by omega)
    refine pk_le n i (fun z => absurd z (by omega)) (fun _ => ⟨pk_in i 6 (by omega), ?_⟩)
    by_cases y : i + 1 < n
    · obtain ⟨f, hf, hB⟩ := hs i y
      have hN := hw (0, nI n, a4) ⟨fun _ => rfl, fun z => absurd z (by omega)⟩
      have hfl := dd_pwL f hf
      have hal := dd_andL v hfl
      refine pk_eq (2 ^ f &&& v) 0 (fun z => ?_) (fun z => nm_r (nI_1 i) hN) (by show a4 (nI i).toNatClampNeg &&& nI v = _; rw [e, hB, dd_and])
      refine dd_sB n6 (by omega) hB hfl hp (fun q => ?_) (fun q1 q2 => ?_)
      · exact br_t rfl (br_t rfl (nm_r (nI_1 i) hN))
      · rcases dd_2a f hf c hc with q | q
        · exact absurd q q1
        · exact absurd q q2
    · have hk : n = i + 1 := by omega
      obtain ⟨hR0, hB⟩ := hl i hk
      have hal := dd_andL v hR
      have hN : ¬ dd_sp R v c → _ := fun q => hw (0, nI n, a4) ⟨fun _ => rfl, fun z => Or.inl ⟨q, rfl⟩⟩
      refine pk_eq (R &&& v) 0 (fun z => ?_) (fun z => nm_r (nI_1 i) (hN (fun q => z q.1))) (by show a4 (nI i).toNatClampNeg &&& nI v = _; rw [e, hB, dd_and])
      refine dd_sB n6 (by omega) hB hR hp (fun q => ?_) (fun q1 q2 => ?_)
      · refine br_t rfl (br_t rfl (nm_r (nI_1 i) (hN (fun t => ?_))))
        have t2 := dd_i1 R hR c hc t.2.1
        rcases q with q | q
        · rw [t2] at q
          have : 0 < 2 ^ c := Nat.two_pow_pos c
          omega
        · rw [t2] at q
          exact t.2.2 q.symm
      · have hb : R.testBit c = true := by
          cases hb : R.testBit c
          · exact absurd (dd_i0 R hR c hc hb) q1
          · rfl
        have hE := dd_i1 R hR c hc hb
        have hS : dd_sp R v c := ⟨z, hb, fun t => q2 (by rw [hE]; exact t.symm)⟩
        have h2 := dd_spn hR hc hS
        rw [hE]
        refine ⟨by omega, ?_⟩
        exact br_t rfl (br_f dd_10 (nm_r (nI_1 i) (hw (1, nI (n + 1), upd (upd a4 n (nI (dd_df R (2 ^ c)))) i (nI (2 ^ c))) ⟨fun z => absurd z (by omega), fun _ => Or.inr ⟨hS, i, hk, rfl⟩⟩)))
theorem dd_sG {post : Int32 → St2 → Prop} {V W : Nat → Nat} {m x n R d : Nat} (hV : ∀ d, d < 2 → V d < 64 ∧ a1 d = nI (V d)) (hW : ∀ d, d < 2 → W d < 64 ∧ a2 d = nI (W d)) (h3 : ∀ d, d < 2 → a3 d = 0) (hd : d < 2) (hm : m.testBit d = true) (J : dd_J V W m x n R a4)
    (H : ∀ (r : Int32) (n' R' : Nat) (bl : Nat → Int32), dd_J V W m x n' R' bl → ((r = 0 ∧ n' = n ∧ R' = R ∧ ∀ c, c < 6 → (W d).testBit c = true → ¬ dd_sp R (V d) c) ∨ (r = 1 ∧ n < n')) → post r (fc, fm, nI n', fs, ft, fk, fp, fr, a1, a2, a3, bl, a5, a6, a7, a8, a9, a10, a11, a12, a13, a14)) :
    wpX_splitByGiven post (fc, fm, nI n, fs, ft, fk, fp, fr, a1, a2, a3, a4, a5, a6, a7, a8, a9, a10, a11, a12, a13, a14) (nI d) := by
  have e : (nI d).toNatClampNeg = d := nI_clamp (by omega)
  refine ⟨pk_in d 10 (by omega), br_t (by rw [e]; exact h3 d hd) ?_⟩
  refine pk_loop (σ := Int32 × Nat × Nat × (Nat → Int32)) (fun N i s => wX_splitByGiven_30 post (nI d) N s.1 (nI i) fc fm (nI s.2.1) fs ft fk fp fr a1 a2 a3 s.2.2.2 a5 a6 a7 a8 a9 a10 a11 a12 a13 a14)
    (fun i s => dd_J V W m x s.2.1 s.2.2.1 s.2.2.2 ∧ ((s.1 = 0 ∧ s.2.1 = n ∧ s.2.2.1 = R ∧ ∀ c, c < i → (W d).testBit c = true → ¬ dd_sp R (V d) c) ∨ (s.1 = 1 ∧ n < s.2.1)))
    6 0 (0, n, R, a4) (by omega) ⟨J, Or.inl ⟨rfl, rfl, rfl, fun c hc => absurd hc (by omega)⟩⟩ ?_ ?_
  · intro N s h
    obtain ⟨r, n1, R1, bl⟩ := s
    obtain ⟨J1, h⟩ := h
    refine pk_le 6 6 (fun _ => ⟨?_, H r n1 R1 bl J1 h⟩) (fun z => absurd z (by omega))
    rcases h with h | h
    · rw [show r = 0 from h.1]; exact dd_n0
    · rw [show r = 1 from h.1]; exact dd_n1
  · intro N i s hi h hw
    obtain ⟨r, n1, R1, bl⟩ := s
    obtain ⟨J1, h⟩ := h
    refine pk_le 6 i (fun z => absurd z (by omega)) (fun _ => ⟨pk_in d 10 (by omega), ?_⟩)
    refine dd_b1 (W d) i (by rw [e, (hW d hd).2]) (hW d hd).1 hi (fun hb => ⟨pk_in d 10 (by omega), ?_⟩) (fun hb => nm_r (nI_1 i) (hw (r, n1, R1, bl) ⟨J1, ?_⟩))
    · rw [e, (hV d hd).2, dd_sh i hi]
      have J2 := J1
      obtain ⟨j1, j2, j3, j4, j5, _⟩ := J2
      refine dd_sBy (hV d hd).1 hi j1 j2 j3 j4 (fun k hk => (j5 k hk).imp (fun f hf => ⟨hf.1, hf.2.1⟩)) (fun q => ?_) (fun q k hk => ?_)
      · rcases h with ⟨g1, g2, g3, g4⟩ | ⟨g1, g2⟩
        · have g1 : r = 0 := g1
          subst g1
          refine br_t rfl (br_t rfl (nm_r (nI_1 i) (hw (0, n1, R1, bl) ⟨J1, Or.inl ⟨rfl, g2, g3, lt_s g4 (fun _ => ?_)⟩⟩)))
          rw [← show R1 = R from g3]
          exact q
        · have g1 : r = 1 := g1
          subst g1
          exact br_f dd_10 (nm_r (nI_1 i) (hw (1, n1, R1, bl) ⟨J1, Or.inr ⟨rfl, g2⟩⟩))
      · have hk : n1 = k + 1 := hk
        subst hk
        have J3 := dd_Jstep J1 hd hm hi hb q
        rcases h with ⟨g1, g2, g3, g4⟩ | ⟨g1, g2⟩
        · have g1 : r = 0 := g1
          subst g1
          refine br_t rfl (br_f dd_10 (nm_r (nI_1 i) (hw (1, _, _, _) ⟨J3, Or.inr ⟨rfl, ?_⟩⟩)))
          have g2 : k + 1 = n := g2
          show n < k + 1 + 1
          omega
        · have g1 : r = 1 := g1
          subst g1
          refine br_f dd_10 (nm_r (nI_1 i) (hw (1, _, _, _) ⟨J3, Or.inr ⟨rfl, ?_⟩⟩))
          have g2 : n < k + 1 := g2
          show n < k + 1 + 1
          omega
    · rcases h with ⟨g1, g2, g3, g4⟩ | g
      · exact Or.inl ⟨g1, g2, g3, lt_s g4 (fun q => absurd q (by rw [hb]; decide))⟩
      · exact Or.inr g
theorem dd_fB47 {post : St2 → Prop} {J32 : Int32 → Int32 → Int32 → Int32 → Int32 → Int32 → Int32 → Int32 → Int32 → Int32 → (Nat → Int32) → (Nat → Int32) → (Nat → Int32) → (Nat → Int32) → (Nat → Int32) → (Nat → Int32) → (Nat → Int32) → (Nat → Int32) → (Nat → Int32) → (Nat → Int32) → (Nat → Int32) → (Nat → Int32) → (Nat → Int32) → (Nat → Int32) → Prop} {x3 : Int32} {V W : Nat → Nat} {m x n R : Nat} (hV : ∀ d, d < 2 → V d < 64 ∧ a1 d = nI (V d)) (hW : ∀ d, d < 2 → W d < 64 ∧ a2 d = nI (W d)) (h3 : ∀ d, d < 2 → a3 d = 0) (hm : m < 64) (J : dd_J V W m x n R a4)
    (H : ∀ (r : Int32) (n' R' : Nat) (bl : Nat → Int32), dd_J V W m x n' R' bl → ((r = 0 ∧ n' = n ∧ R' = R ∧ dd_stab V W m R) ∨ (r = 1 ∧ n < n')) → J32 r (x3 + 1) 2 (nI m) (nI n') fs ft fk fp fr a1 a2 a3 bl a5 a6 a7 a8 a9 a10 a11 a12 a13 a14) :
    ∃ fu, wX_findBasis_47 post J32 x3 fu 0 0 2 (nI m) (nI n) fs ft fk fp fr a1 a2 a3 a4 a5 a6 a7 a8 a9 a10 a11 a12 a13 a14 := by
  refine pk_loop (σ := Int32 × Nat × Nat × (Nat → Int32)) (fun N i s => wX_findBasis_47 post J32 x3 N s.1 (nI i) 2 (nI m) (nI s.2.1) fs ft fk fp fr a1 a2 a3 s.2.2.2 a5 a6 a7 a8 a9 a10 a11 a12 a13 a14)
    (fun i s => dd_J V W m x s.2.1 s.2.2.1 s.2.2.2 ∧ ((s.1 = 0 ∧ s.2.1 = n ∧ s.2.2.1 = R ∧ ∀ d, d < i → m.testBit d = true → ∀ c, c < 6 → (W d).testBit c = true → ¬ dd_sp R (V d) c) ∨ (s.1 = 1 ∧ n < s.2.1)))
    2 0 (0, n, R, a4) (by omega) ⟨J, Or.inl ⟨rfl, rfl, rfl, fun c hc => absurd hc (by omega)⟩⟩ ?_ ?_
  · intro N s h
    obtain ⟨r, n1, R1, bl⟩ := s
    obtain ⟨J1, h⟩ := h
    exact pk_le 2 2 (fun _ => nm_e (H r n1 R1 bl J1 h)) (fun z => absurd z (by omega))
  · intro N i s hi h hw
    obtain ⟨r, n1, R1, bl⟩ := s
    obtain ⟨J1, h⟩ := h
    refine pk_le 2 i (fun z => absurd z (by omega)) (fun _ => dd_b1 m i rfl hm (by omega) (fun hb => ?_) (fun hb => nm_r (nI_1 i) (hw (r, n1, R1, bl) ⟨J1, ?_⟩)))
    · refine dd_sG hV hW h3 hi hb J1 (fun r2 n2 R2 bl2 J2 h2 => ?_)
      rcases h with ⟨g1, g2, g3, g4⟩ | ⟨g1, g2⟩
      · have g1 : r = 0 := g1
        have g2 : n1 = n := g2
        have g3 : R1 = R := g3
        subst g1 g2 g3
        rcases h2 with ⟨k1, k2, k3, k4⟩ | ⟨k1, k2⟩
        · subst k1
          exact br_t rfl (br_t rfl (nm_r (nI_1 i) (hw (0, n2, R2, bl2) ⟨J2, Or.inl ⟨rfl, k2, k3, lt_s g4 (fun _ => k4)⟩⟩)))
        · subst k1
          exact br_t rfl (br_f dd_10 (nm_r (nI_1 i) (hw (1, n2, R2, bl2) ⟨J2, Or.inr ⟨rfl, k2⟩⟩)))
      · have g1 : r = 1 := g1
        have g2 : n < n1 := g2
        subst g1
        refine br_f dd_10 (nm_r (nI_1 i) (hw (1, n2, R2, bl2) ⟨J2, Or.inr ⟨rfl, ?_⟩⟩))
        show n < n2
        rcases h2 with ⟨k1, k2, k3, k4⟩ | ⟨k1, k2⟩ <;> omega
    · rcases h with ⟨g1, g2, g3, g4⟩ | g
      · exact Or.inl ⟨g1, g2, g3, lt_s g4 (fun q => absurd q (by rw [hb]; decide))⟩
      · exact Or.inr g
theorem dd_fB32 {post : St2 → Prop} {V W : Nat → Nat} {m x n R : Nat} (hV : ∀ d, d < 2 → V d < 64 ∧ a1 d = nI (V d)) (hW : ∀ d, d < 2 → W d < 64 ∧ a2 d = nI (W d)) (h3 : ∀ d, d < 2 → a3 d = 0) (hm : m < 64) (J : dd_J V W m x n R a4)
    (H : ∀ (n' R' : Nat) (bl : Nat → Int32), dd_J V W m x n' R' bl → dd_stab V W m R' → post (2, nI m, nI n', fs, ft, fk, fp, fr, a1, a2, a3, bl, a5, a6, a7, a8, a9, a10, a11, a12, a13, a14)) :
    ∃ fu, wX_findBasis_32 post fu 1 0 2 (nI m) (nI n) fs ft fk fp fr a1 a2 a3 a4 a5 a6 a7 a8 a9 a10 a11 a12 a13 a14 := by
  refine pk_loop (σ := Int32 × Nat × Nat × (Nat → Int32)) (fun N i s => wX_findBasis_32 post N s.1 (nI i) 2 (nI m) (nI s.2.1) fs ft fk fp fr a1 a2 a3 s.2.2.2 a5 a6 a7 a8 a9 a10 a11 a12 a13 a14)
    (fun i s => dd_J V W m x s.2.1 s.2.2.1 s.2.2.2 ∧ ((s.1 = 1 ∧ i ≤ s.2.1) ∨ (s.1 = 0 ∧ dd_stab V W m s.2.2.1)))
    6 0 (1, n, R, a4) (by omega) ⟨J, Or.inl ⟨rfl, Nat.zero_le _⟩⟩ ?_ ?_
  · intro N s h
    obtain ⟨r, n1, R1, bl⟩ := s
    obtain ⟨J1, h⟩ := h
    refine pk_le 6 6 (fun _ => H n1 R1 bl J1 ?_) (fun z => absurd z (by omega))
    rcases h with ⟨g1, g2⟩ | ⟨g1, g2⟩
    · exact dd_stab6 J1 g2
    · exact g2
  · intro N i s hi h hw
    obtain ⟨r, n1, R1, bl⟩ := s
    obtain ⟨J1, h⟩ := h
    refine pk_le 6 i (fun z => absurd z (by omega)) (fun _ => ?_)
    rcases h with ⟨g1, g2⟩ | ⟨g1, g2⟩
    · have g1 : r = 1 := g1
      have g2 : i ≤ n1 := g2
      subst g1
      refine br_f dd_10 (dd_fB47 hV hW h3 hm J1 (fun r2 n2 R2 bl2 J2 h2 => ?_))
      rw [nI_1 i]
      refine hw (r2, n2, R2, bl2) ⟨J2, ?_⟩
      rcases h2 with ⟨k1, k2, k3, k4⟩ | ⟨k1, k2⟩
      · exact Or.inr ⟨k1, by show dd_stab V W m R2; rw [k3]; exact k4⟩
      · exact Or.inl ⟨k1, by show i + 1 ≤ n2; omega⟩
    · have g1 : r = 0 := g1
      subst g1
      exact br_t rfl (H n1 R1 bl J1 g2)
theorem dd_fB {post : St2 → Prop} {V W : Nat → Nat} {m x : Nat} (hV : ∀ d, d < 2 → V d < 64 ∧ a1 d = nI (V d)) (hW : ∀ d, d < 2 → W d < 64 ∧ a2 d = nI (W d)) (h3 : ∀ d, d < 2 → a3 d = 0) (hm : m < 64) (hx : x < 64)
    (H : ∀ (n R : Nat) (bl : Nat → Int32), dd_J V W m x n R bl → dd_stab V W m R → post (2, nI m, nI n, fs, ft, fk, fp, fr, a1, a2, a3, bl, a5, a6, a7, a8, a9, a10, a11, a12, a13, a14)) :
    wpX_findBasis post (2, nI m, fb, fs, ft, fk, fp, fr, a1, a2, a3, a4, a5, a6, a7, a8, a9, a10, a11, a12, a13, a14) (nI x) := by
  refine pk_eq x 63 (fun z => ?_) (fun z => nm_r (congrArg (upd a4 0) (dd_dfI 63 (by omega) x hx)) ?_)
  · subst z
    exact dd_fB32 hV hW h3 hm dd_J0 H
  · exact dd_fB32 hV hW h3 hm (dd_J1 hx z) H
theorem dd_c9 {post : Int32 → St2 → Prop} {V W : Nat → Nat} {m x n R : Nat} (hV : ∀ d, d < 2 → V d < 64 ∧ a1 d = nI (V d)) (hW : ∀ d, d < 2 → W d < 64 ∧ a2 d = nI (W d)) (h3 : ∀ d, d < 2 → a3 d = 0) (hm : m < 64) (hx : x < 64) (J : dd_J V W m x n R a4) (hS : dd_stab V W m R)
    (H : ∀ (y : Nat), dd_is V W m x y → post (nI y) (2, nI m, nI n, fs, ft, fk, fp, fr, a1, a2, a3, a4, a5, a6, a7, a8, a9, a10, a11, a12, a13, a14)) :
    ∃ fu, wX_closeSet_9 post 2 (nI m) (nI n) fs ft fk fp fr a1 a2 a3 a4 a5 a6 a7 a8 a9 a10 a11 a12 a13 a14 fu (nI x) 0 := by
  have n6 := dd_Jn J
  have J2 := J
  obtain ⟨j1, j2, j3, j4, j5, j6, j7⟩ := J2
  refine pk_loop (fun N i (o : Nat) => wX_closeSet_9 post 2 (nI m) (nI n) fs ft fk fp fr a1 a2 a3 a4 a5 a6 a7 a8 a9 a10 a11 a12 a13 a14 N (nI o) (nI i))
    (fun i o => o < 64 ∧ (i < n → ∀ c, c < 6 → (o.testBit c = true ↔ x.testBit c = true ∨ ∃ k, k < i ∧ a4 k = nI (2 ^ c))) ∧ (i = n → dd_is V W m x o)) n 0 x (Nat.zero_le _) ⟨hx, fun _ c hc => ⟨Or.inl, ?_⟩, fun h => ?_⟩ ?_ ?_
  · rintro (z | ⟨k, hk, _⟩)
    · exact z
    · omega
  · have hR : R = 0 := j3 h.symm
    refine dd_fin2 J hx hS hx (fun c hc => ?_) (fun c hc z => ?_)
    · rw [j6 c hc]
      constructor
      · exact Or.inl
      · rintro (z | ⟨k, hk, _⟩)
        · exact z
        · omega
    · have : 0 < 2 ^ c := Nat.two_pow_pos c
      omega
  · intro N o h
    exact pk_le n n (fun _ => H o (h.2.2 rfl)) (fun z => absurd z (by omega))
  · intro N i o hi h hw
    obtain ⟨h1, h2, _⟩ := h
    have h2 := h2 hi
    have e : (nI i).toNatClampNeg = i := nI_clamp (by omega)
    refine pk_le n i (fun z => absurd z (by omega)) (fun _ => ⟨pk_in i 6 (by omega), pk_in i 6 (by omega), ?_⟩)
    rw [e]
    by_cases z : i + 1 < n
    · obtain ⟨c, hc, hb, hdet⟩ := j5 i z
      rw [hb]
      refine ek_if (dd_al _ (dd_pwL c hc)) (fun _ => ?_) (fun q => absurd (by rw [dd_pcw c hc]; omega) q)
      refine br_f dd_10 ⟨pk_in i 6 (by omega), ?_⟩
      rw [e, hb]
      refine dd_lo hc ?_
      refine dd_iD hV hW h3 hm hc (fun _ => ?_) (fun q => absurd hdet q)
      refine br_f dd_10 ⟨pk_in i 6 (by omega), nm_r (dd_or o _) (nm_r (nI_1 i) (hw (o ||| 2 ^ c) ⟨dd_orL h1 (dd_pwL c hc), fun _ f hf => ?_, fun g => absurd g (by omega)⟩))⟩
      rw [Nat.testBit_or, Bool.or_eq_true, h2 f hf, dd_2b c hc f hf]
      constructor
      · rintro ((g | ⟨k, g1, g2⟩) | g)
        · exact Or.inl g
        · exact Or.inr ⟨k, by omega, g2⟩
        · have := of_decide_eq_true g
          subst this
          exact Or.inr ⟨i, by omega, hb⟩
      · rintro (g | ⟨k, g1, g2⟩)
        · exact Or.inl (Or.inl g)
        · by_cases y : k = i
          · subst y
            rw [hb] at g2
            exact Or.inr (decide_eq_true (dd_2i c hc f hf g2))
          · exact Or.inl (Or.inr ⟨k, by omega, g2⟩)
    · have hk : n = i + 1 := by omega
      obtain ⟨hR0, hb⟩ := j4 i hk
      have ho : ∀ c, c < 6 → (o.testBit c = true ↔ R.testBit c = false) := fun c hc => by
        rw [h2 c hc, j6 c hc]
        constructor
        · rintro (g | ⟨k, g1, g2⟩)
          · exact Or.inl g
          · exact Or.inr ⟨k, by omega, g2⟩
        · rintro (g | ⟨k, g1, g2⟩)
          · exact Or.inl g
          · exact Or.inr ⟨k, by omega, g2⟩
      rw [hb]
      refine ek_if (dd_al R j1) (fun q => ?_) (fun q => ?_)
      · obtain ⟨c, hc, hcb⟩ := dd_ne j1 hR0
        have hRc := dd_pc1 R j1 q c hc hcb
        have hb' : a4 i = nI (2 ^ c) := by rw [hb, hRc]
        refine br_f dd_10 ⟨pk_in i 6 (by omega), ?_⟩
        rw [e, hb']
        refine dd_lo hc ?_
        refine dd_iD hV hW h3 hm hc (fun hdet => ?_) (fun hdet => ?_)
        · refine br_f dd_10 ⟨pk_in i 6 (by omega), nm_r (dd_or o _) (nm_r (nI_1 i) (hw (o ||| 2 ^ c) ⟨dd_orL h1 (dd_pwL c hc), fun g => absurd g (by omega), fun _ => ?_⟩))⟩
          have e63 : o ||| 2 ^ c = 63 := by
            apply dd_ext (dd_orL h1 (dd_pwL c hc)) (by omega)
            intro f hf
            rw [dd_63b f hf, Nat.testBit_or, Bool.or_eq_true, ho f hf, ← hRc]
            cases R.testBit f <;> simp
          rw [e63]
          exact dd_fin1 J hx hc hRc hdet
        · refine br_t rfl (nm_r (nI_1 i) (hw o ⟨h1, fun g => absurd g (by omega), fun _ => ?_⟩))
          refine dd_fin2 J hx hS h1 ho (fun f hf hRf hdf => hdet ?_)
          have : 2 ^ c = 2 ^ f := hRc.symm.trans hRf
          rw [dd_2i c hc f hf (by rw [this])]
          exact hdf
      · refine br_t rfl (nm_r (nI_1 i) (hw o ⟨h1, fun g => absurd g (by omega), fun _ => ?_⟩))
        refine dd_fin2 J hx hS h1 ho (fun f hf hRf hdf => q ?_)
        rw [hRf, dd_pcw f hf]
        omega
/-- closeSet gives the closure; of the desk it changes the blocks alone -/
theorem dd_cS {post : Int32 → St2 → Prop} {V W : Nat → Nat} {m x : Nat} (hV : ∀ d, d < 2 → V d < 64 ∧ a1 d = nI (V d)) (hW : ∀ d, d < 2 → W d < 64 ∧ a2 d = nI (W d)) (h3 : ∀ d, d < 2 → a3 d = 0) (hm : m < 64) (hx : x < 64)
    (H : ∀ (y : Nat) (n : Int32) (bl : Nat → Int32), dd_is V W m x y → post (nI y) (2, nI m, n, fs, ft, fk, fp, fr, a1, a2, a3, bl, a5, a6, a7, a8, a9, a10, a11, a12, a13, a14)) :
    wpX_closeSet post (2, nI m, fb, fs, ft, fk, fp, fr, a1, a2, a3, a4, a5, a6, a7, a8, a9, a10, a11, a12, a13, a14) (nI x) := by
  unfold wpX_closeSet
  exact dd_fB hV hW h3 hm hx (fun n R bl J hS => dd_c9 hV hW h3 hm hx J hS (fun y hy => H y (nI n) bl hy))
end
end
section
section
variable {fc fm fb fs ft fk fp fr : Int32} {a1 a2 a3 a4 a5 a6 a7 a8 a9 a10 a11 a12 a13 a14 : Nat → Int32}
theorem dd_sB_2 {post : Int32 → St2 → Prop} {n k B w : Nat} (hn : n ≤ 6) (hk : k < 6) (hB : a4 k = nI B) (hB6 : B < 64) (hw : w < 64)
    (H0 : (B &&& w = 0 ∨ B &&& w = B) → post 0 (fc, fm, nI n, fs, ft, fk, fp, fr, a1, a2, a3, a4, a5, a6, a7, a8, a9, a10, a11, a12, a13, a14))
    (H1 : B &&& w ≠ 0 → B &&& w ≠ B → n < 6 ∧ post 1 (fc, fm, nI (n + 1), fs, ft, fk, fp, fr, a1, a2, a3, upd (upd a4 n (nI (dd_df B (B &&& w)))) k (nI (B &&& w)), a5, a6, a7, a8, a9, a10, a11, a12, a13, a14)) :
    wpX_splitBlock_2 post (fc, fm, nI n, fs, ft, fk, fp, fr, a1, a2, a3, a4, a5, a6, a7, a8, a9, a10, a11, a12, a13, a14) (nI k) (nI w) := by
  have e : (nI k).toNatClampNeg = k := nI_clamp (by omega)
  have e' : (nI n).toNatClampNeg = n := nI_clamp (by omega)
  have hL := dd_andL w hB6
  refine ⟨pk_in k 6 hk, ?_⟩
  rw [e, e', hB, dd_and]
  refine nm_e ?_
  refine pk_eq (B &&& w) 0 (fun z => H0 (Or.inl z)) (fun z0 => ⟨pk_in k 6 hk, ?_⟩)
  refine pk_eq (B &&& w) B (fun z => H0 (Or.inr z)) (fun z1 => ⟨pk_in k 6 hk, pk_in n 6 (H1 z0 z1).1, ?_⟩)
  rw [dd_dfI B hB6 _ hL]
  exact nm_e ⟨pk_in k 6 hk, nm_e (nm_r (nI_1 n) (H1 z0 z1).2)⟩
theorem dd_sBy_2 {post : Int32 → St2 → Prop} {n R v c : Nat} (hv : v < 64) (hc : c < 6) (hR : R < 64) (hn : n + dd_pc R ≤ 7) (h0 : n = 0 → R = 0) (hl : ∀ k, n = k + 1 → R ≠ 0 ∧ a4 k = nI R) (hs : ∀ k, k + 1 < n → ∃ e, e < 6 ∧ a4 k = nI (2 ^ e))
    (H0 : ¬ dd_sp R v c → post 0 (fc, fm, nI n, fs, ft, fk, fp, fr, a1, a2, a3, a4, a5, a6, a7, a8, a9, a10, a11, a12, a13, a14))
    (H1 : dd_sp R v c → ∀ k, n = k + 1 → post 1 (fc, fm, nI (n + 1), fs, ft, fk, fp, fr, a1, a2, a3, upd (upd a4 n (nI (dd_df R (2 ^ c)))) k (nI (2 ^ c)), a5, a6, a7, a8, a9, a10, a11, a12, a13, a14)) :
    wpX_splitBy_2 post (fc, fm, nI n, fs, ft, fk, fp, fr, a1, a2, a3, a4, a5, a6, a7, a8, a9, a10, a11, a12, a13, a14) (nI v) (nI (2 ^ c)) := by
  have n6 : n ≤ 6 := by
    rcases n with _ | k
    · omega
    · have := dd_pcp R hR (hl k rfl).1
      omega
  have hp := dd_pwL c hc
  refine pk_loop (σ := Int32 × Int32 × (Nat → Int32)) (fun N i s => wX_splitBy_2_11 post (nI v) (nI (2 ^ c)) (nI n) N s.1 (nI i) fc fm s.2.1 fs ft fk fp fr a1 a2 a3 s.2.2 a5 a6 a7 a8 a9 a10 a11 a12 a13 a14)
    (fun i s => (i < n → s = (0, nI n, a4)) ∧ (i = n → (¬ dd_sp R v c ∧ s = (0, nI n, a4)) ∨ (dd_sp R v c ∧ ∃ k, n = k + 1 ∧ s = (1, nI (n + 1), upd (upd a4 n (nI (dd_df R (2 ^ c)))) k (nI (2 ^ c))))))
    n 0 (0, nI n, a4) (Nat.zero_le _) ⟨fun _ => rfl, fun h => Or.inl ⟨fun z => ?_, rfl⟩⟩ ?_ ?_
  · rw [h0 h.symm] at z
    exact absurd z.2.1 (by rw [Nat.zero_testBit]; decide)
  · intro N s h
    rcases h.2 rfl with ⟨h1, e⟩ | ⟨h1, k, hk, e⟩
    · subst e
      exact pk_le n n (fun _ => ⟨dd_n0, H0 h1⟩) (fun z => absurd z (by omega))
    · subst e
      exact pk_le n n (fun _ => ⟨dd_n1, H1 h1 k hk⟩) (fun z => absurd z (by omega))
  · intro N i s hi h hw
    have es := h.1 hi
    subst es
    have e : (nI i).toNatClampNeg = i := nI_clamp (by omega)
    refine pk_le n i (fun z => absurd z (by omega)) (fun _ => ⟨pk_in i 6 (by omega), ?_⟩)
    by_cases y : i + 1 < n
    · obtain ⟨f, hf, hB⟩ := hs i y
      have hN := hw (0, nI n, a4) ⟨fun _ => rfl, fun z => absurd z (by omega)⟩
      have hfl := dd_pwL f hf
      have hal := dd_andL v hfl
      refine pk_eq (2 ^ f &&& v) 0 (fun z => ?_) (fun z => nm_r (nI_1 i) hN) (by show a4 (nI i).toNatClampNeg &&& nI v = _; rw [e, hB, dd_and])
      refine dd_sB_2 n6 (by omega) hB hfl hp (fun q => ?_) (fun q1 q2 => ?_)
      · exact br_t rfl (br_t rfl (nm_r (nI_1 i) hN))
      · rcases dd_2a f hf c hc with q | q
        · exact absurd q q1
        · exact absurd q q2
    · have hk : n = i + 1 := by omega
      obtain ⟨hR0, hB⟩ := hl i hk
      have hal := dd_andL v hR
      have hN : ¬ dd_sp R v c → _ := fun q => hw (0, nI n, a4) ⟨fun _ => rfl, fun z => Or.inl ⟨q, rfl⟩⟩
      refine pk_eq (R &&& v) 0 (fun z => ?_) (fun z => nm_r (nI_1 i) (hN (fun q => z q.1))) (by show a4 (nI i).toNatClampNeg &&& nI v = _; rw [e, hB, dd_and])
      refine dd_sB_2 n6 (by omega) hB hR hp (fun q => ?_) (fun q1 q2 => ?_)
      · refine br_t rfl (br_t rfl (nm_r (nI_1 i) (hN (fun t => ?_))))
        have t2 := dd_i1 R hR c hc t.2.1
        rcases q with q | q
        · rw [t2] at q
          have : 0 < 2 ^ c := Nat.two_pow_pos c
          omega
        · rw [t2] at q
          exact t.2.2 q.symm
      · have hb : R.testBit c = true := by
          cases hb : R.testBit c
          · exact absurd (dd_i0 R hR c hc hb) q1
          · rfl
        have hE := dd_i1 R hR c hc hb
        have hS : dd_sp R v c := ⟨z, hb, fun t => q2 (by rw [hE]; exact t.symm)⟩
        have h2 := dd_spn hR hc hS
        rw [hE]
        refine ⟨by omega, ?_⟩
        exact br_t rfl (br_f dd_10 (nm_r (nI_1 i) (hw (1, nI (n + 1), upd (upd a4 n (nI (dd_df R (2 ^ c)))) i (nI (2 ^ c))) ⟨fun z => absurd z (by omega), fun _ => Or.inr ⟨hS, i, hk, rfl⟩⟩)))
theorem dd_sG_2 {post : Int32 → St2 → Prop} {V W : Nat → Nat} {m x n R d : Nat} (hV : ∀ d, d < 2 → V d < 64 ∧ a1 d = nI (V d)) (hW : ∀ d, d < 2 → W d < 64 ∧ a2 d = nI (W d)) (h3 : ∀ d, d < 2 → a3 d = 0) (hd : d < 2) (hm : m.testBit d = true) (J : dd_J V W m x n R a4)
    (H : ∀ (r : Int32) (n' R' : Nat) (bl : Nat → Int32), dd_J V W m x n' R' bl → ((r = 0 ∧ n' = n ∧ R' = R ∧ ∀ c, c < 6 → (W d).testBit c = true → ¬ dd_sp R (V d) c) ∨ (r = 1 ∧ n < n')) → post r (fc, fm, nI n', fs, ft, fk, fp, fr, a1, a2, a3, bl, a5, a6, a7, a8, a9, a10, a11, a12, a13, a14)) :
    wpX_splitByGiven_2 post (fc, fm, nI n, fs, ft, fk, fp, fr, a1, a2, a3, a4, a5, a6, a7, a8, a9, a10, a11, a12, a13, a14) (nI d) := by
  have e : (nI d).toNatClampNeg = d := nI_clamp (by omega)
  refine ⟨pk_in d 10 (by omega), br_t (by rw [e]; exact h3 d hd) ?_⟩
  refine pk_loop (σ := Int32 × Nat × Nat × (Nat → Int32)) (fun N i s => wX_splitByGiven_2_30 post (nI d) N s.1 (nI i) fc fm (nI s.2.1) fs ft fk fp fr a1 a2 a3 s.2.2.2 a5 a6 a7 a8 a9 a10 a11 a12 a13 a14)
    (fun i s => dd_J V W m x s.2.1 s.2.2.1 s.2.2.2 ∧ ((s.1 = 0 ∧ s.2.1 = n ∧ s.2.2.1 = R ∧ ∀ c, c < i → (W d).testBit c = true → ¬ dd_sp R (V d) c) ∨ (s.1 = 1 ∧ n < s.2.1)))
    6 0 (0, n, R, a4) (by omega) ⟨J, Or.inl ⟨rfl, rfl, rfl, fun c hc => absurd hc (by omega)⟩⟩ ?_ ?_
  · intro N s h
    obtain ⟨r, n1, R1, bl⟩ := s
    obtain ⟨J1, h⟩ := h
    refine pk_le 6 6 (fun _ => ⟨?_, H r n1 R1 bl J1 h⟩) (fun z => absurd z (by omega))
    rcases h with h | h
    · rw [show r = 0 from h.1]; exact dd_n0
    · rw [show r = 1 from h.1]; exact dd_n1
  · intro N i s hi h hw
    obtain ⟨r, n1, R1, bl⟩ := s
    obtain ⟨J1, h⟩ := h
    refine pk_le 6 i (fun z => absurd z (by omega)) (fun _ => ⟨pk_in d 10 (by omega), ?_⟩)
    refine dd_b1 (W d) i (by rw [e, (hW d hd).2]) (hW d hd).1 hi (fun hb => ⟨pk_in d 10 (by omega), ?_⟩) (fun hb => nm_r (nI_1 i) (hw (r, n1, R1, bl) ⟨J1, ?_⟩))
    · rw [e, (hV d hd).2, dd_sh i hi]
      have J2 := J1
      obtain ⟨j1, j2, j3, j4, j5, _⟩ := J2
      refine dd_sBy_2 (hV d hd).1 hi j1 j2 j3 j4 (fun k hk => (j5 k hk).imp (fun f hf => ⟨hf.1, hf.2.1⟩)) (fun q => ?_) (fun q k hk => ?_)
      · rcases h with ⟨g1, g2, g3, g4⟩ | ⟨g1, g2⟩
        · have g1 : r = 0 := g1
          subst g1
          refine br_t rfl (br_t rfl (nm_r (nI_1 i) (hw (0, n1, R1, bl) ⟨J1, Or.inl ⟨rfl, g2, g3, lt_s g4 (fun _ => ?_)⟩⟩)))
          rw [← show R1 = R from g3]
          exact q
        · have g1 : r = 1 := g1
          subst g1
          exact br_f dd_10 (nm_r (nI_1 i) (hw (1, n1, R1, bl) ⟨J1, Or.inr ⟨rfl, g2⟩⟩))
      · have hk : n1 = k + 1 := hk
        subst hk
        have J3 := dd_Jstep J1 hd hm hi hb q
        rcases h with ⟨g1, g2, g3, g4⟩ | ⟨g1, g2⟩
        · have g1 : r = 0 := g1
          subst g1
          refine br_t rfl (br_f dd_10 (nm_r (nI_1 i) (hw (1, _, _, _) ⟨J3, Or.inr ⟨rfl, ?_⟩⟩)))
          have g2 : k + 1 = n := g2
          show n < k + 1 + 1
          omega
        · have g1 : r = 1 := g1
          subst g1
          refine br_f dd_10 (nm_r (nI_1 i) (hw (1, _, _, _) ⟨J3, Or.inr ⟨rfl, ?_⟩⟩))
          have g2 : n < k + 1 := g2
          show n < k + 1 + 1
          omega
    · rcases h with ⟨g1, g2, g3, g4⟩ | g
      · exact Or.inl ⟨g1, g2, g3, lt_s g4 (fun q => absurd q (by rw [hb]; decide))⟩
      · exact Or.inr g
theorem dd_fB47_2 {post : St2 → Prop} {J32 : Int32 → Int32 → Int32 → Int32 → Int32 → Int32 → Int32 → Int32 → Int32 → Int32 → (Nat → Int32) → (Nat → Int32) → (Nat → Int32) → (Nat → Int32) → (Nat → Int32) → (Nat → Int32) → (Nat → Int32) → (Nat → Int32) → (Nat → Int32) → (Nat → Int32) → (Nat → Int32) → (Nat → Int32) → (Nat → Int32) → (Nat → Int32) → Prop} {x3 : Int32} {V W : Nat → Nat} {m x n R : Nat} (hV : ∀ d, d < 2 → V d < 64 ∧ a1 d = nI (V d)) (hW : ∀ d, d < 2 → W d < 64 ∧ a2 d = nI (W d)) (h3 : ∀ d, d < 2 → a3 d = 0) (hm : m < 64) (J : dd_J V W m x n R a4)
    (H : ∀ (r : Int32) (n' R' : Nat) (bl : Nat → Int32), dd_J V W m x n' R' bl → ((r = 0 ∧ n' = n ∧ R' = R ∧ dd_stab V W m R) ∨ (r = 1 ∧ n < n')) → J32 r (x3 + 1) 2 (nI m) (nI n') fs ft fk fp fr a1 a2 a3 bl a5 a6 a7 a8 a9 a10 a11 a12 a13 a14) :
    ∃ fu, wX_findBasis_2_47 post J32 x3 fu 0 0 2 (nI m) (nI n) fs ft fk fp fr a1 a2 a3 a4 a5 a6 a7 a8 a9 a10 a11 a12 a13 a14 := by
  refine pk_loop (σ := Int32 × Nat × Nat × (Nat → Int32)) (fun N i s => wX_findBasis_2_47 post J32 x3 N s.1 (nI i) 2 (nI m) (nI s.2.1) fs ft fk fp fr a1 a2 a3 s.2.2.2 a5 a6 a7 a8 a9 a10 a11 a12 a13 a14)
    (fun i s => dd_J V W m x s.2.1 s.2.2.1 s.2.2.2 ∧ ((s.1 = 0 ∧ s.2.1 = n ∧ s.2.2.1 = R ∧ ∀ d, d < i → m.testBit d = true → ∀ c, c < 6 → (W d).testBit c = true → ¬ dd_sp R (V d) c) ∨ (s.1 = 1 ∧ n < s.2.1)))
    2 0 (0, n, R, a4) (by omega) ⟨J, Or.inl ⟨rfl, rfl, rfl, fun c hc => absurd hc (by omega)⟩⟩ ?_ ?_
  · intro N s h
    obtain ⟨r, n1, R1, bl⟩ := s
    obtain ⟨J1, h⟩ := h
    exact pk_le 2 2 (fun _ => nm_e (H r n1 R1 bl J1 h)) (fun z => absurd z (by omega))
  · intro N i s hi h hw
    obtain ⟨r, n1, R1, bl⟩ := s
    obtain ⟨J1, h⟩ := h
    refine pk_le 2 i (fun z => absurd z (by omega)) (fun _ => dd_b1 m i rfl hm (by omega) (fun hb => ?_) (fun hb => nm_r (nI_1 i) (hw (r, n1, R1, bl) ⟨J1, ?_⟩)))
    · refine dd_sG_2 hV hW h3 hi hb J1 (fun r2 n2 R2 bl2 J2 h2 => ?_)
      rcases h with ⟨g1, g2, g3, g4⟩ | ⟨g1, g2⟩
      · have g1 : r = 0 := g1
        have g2 : n1 = n := g2
        have g3 : R1 = R := g3
        subst g1 g2 g3
        rcases h2 with ⟨k1, k2, k3, k4⟩ | ⟨k1, k2⟩
        · subst k1
          exact br_t rfl (br_t rfl (nm_r (nI_1 i) (hw (0, n2, R2, bl2) ⟨J2, Or.inl ⟨rfl, k2, k3, lt_s g4 (fun _ => k4)⟩⟩)))
        · subst k1
          exact br_t rfl (br_f dd_10 (nm_r (nI_1 i) (hw (1, n2, R2, bl2) ⟨J2, Or.inr ⟨rfl, k2⟩⟩)))
      · have g1 : r = 1 := g1
        have g2 : n < n1 := g2
        subst g1
        refine br_f dd_10 (nm_r (nI_1 i) (hw (1, n2, R2, bl2) ⟨J2, Or.inr ⟨rfl, ?_⟩⟩))
        show n < n2
        rcases h2 with ⟨k1, k2, k3, k4⟩ | ⟨k1, k2⟩ <;> omega
    · rcases h with ⟨g1, g2, g3, g4⟩ | g
      · exact Or.inl ⟨g1, g2, g3, lt_s g4 (fun q => absurd q (by rw [hb]; decide))⟩
      · exact Or.inr g
theorem dd_fB32_2 {post : St2 → Prop} {V W : Nat → Nat} {m x n R : Nat} (hV : ∀ d, d < 2 → V d < 64 ∧ a1 d = nI (V d)) (hW : ∀ d, d < 2 → W d < 64 ∧ a2 d = nI (W d)) (h3 : ∀ d, d < 2 → a3 d = 0) (hm : m < 64) (J : dd_J V W m x n R a4)
    (H : ∀ (n' R' : Nat) (bl : Nat → Int32), dd_J V W m x n' R' bl → dd_stab V W m R' → post (2, nI m, nI n', fs, ft, fk, fp, fr, a1, a2, a3, bl, a5, a6, a7, a8, a9, a10, a11, a12, a13, a14)) :
    ∃ fu, wX_findBasis_2_32 post fu 1 0 2 (nI m) (nI n) fs ft fk fp fr a1 a2 a3 a4 a5 a6 a7 a8 a9 a10 a11 a12 a13 a14 := by
  refine pk_loop (σ := Int32 × Nat × Nat × (Nat → Int32)) (fun N i s => wX_findBasis_2_32 post N s.1 (nI i) 2 (nI m) (nI s.2.1) fs ft fk fp fr a1 a2 a3 s.2.2.2 a5 a6 a7 a8 a9 a10 a11 a12 a13 a14)
    (fun i s => dd_J V W m x s.2.1 s.2.2.1 s.2.2.2 ∧ ((s.1 = 1 ∧ i ≤ s.2.1) ∨ (s.1 = 0 ∧ dd_stab V W m s.2.2.1)))
    6 0 (1, n, R, a4) (by omega) ⟨J, Or.inl ⟨rfl, Nat.zero_le _⟩⟩ ?_ ?_
  · intro N s h
    obtain ⟨r, n1, R1, bl⟩ := s
    obtain ⟨J1, h⟩ := h
    refine pk_le 6 6 (fun _ => H n1 R1 bl J1 ?_) (fun z => absurd z (by omega))
    rcases h with ⟨g1, g2⟩ | ⟨g1, g2⟩
    · exact dd_stab6 J1 g2
    · exact g2
  · intro N i s hi h hw
    obtain ⟨r, n1, R1, bl⟩ := s
    obtain ⟨J1, h⟩ := h
    refine pk_le 6 i (fun z => absurd z (by omega)) (fun _ => ?_)
    rcases h with ⟨g1, g2⟩ | ⟨g1, g2⟩
    · have g1 : r = 1 := g1
      have g2 : i ≤ n1 := g2
      subst g1
      refine br_f dd_10 (dd_fB47_2 hV hW h3 hm J1 (fun r2 n2 R2 bl2 J2 h2 => ?_))
      rw [nI_1 i]
      refine hw (r2, n2, R2, bl2) ⟨J2, ?_⟩
      rcases h2 with ⟨k1, k2, k3, k4⟩ | ⟨k1, k2⟩
      · exact Or.inr ⟨k1, by show dd_stab V W m R2; rw [k3]; exact k4⟩
      · exact Or.inl ⟨k1, by show i + 1 ≤ n2; omega⟩
    · have g1 : r = 0 := g1
      subst g1
      exact br_t rfl (H n1 R1 bl J1 g2)
theorem dd_fB_2 {post : St2 → Prop} {V W : Nat → Nat} {m x : Nat} (hV : ∀ d, d < 2 → V d < 64 ∧ a1 d = nI (V d)) (hW : ∀ d, d < 2 → W d < 64 ∧ a2 d = nI (W d)) (h3 : ∀ d, d < 2 → a3 d = 0) (hm : m < 64) (hx : x < 64)
    (H : ∀ (n R : Nat) (bl : Nat → Int32), dd_J V W m x n R bl → dd_stab V W m R → post (2, nI m, nI n, fs, ft, fk, fp, fr, a1, a2, a3, bl, a5, a6, a7, a8, a9, a10, a11, a12, a13, a14)) :
    wpX_findBasis_2 post (2, nI m, fb, fs, ft, fk, fp, fr, a1, a2, a3, a4, a5, a6, a7, a8, a9, a10, a11, a12, a13, a14) (nI x) := by
  refine pk_eq x 63 (fun z => ?_) (fun z => nm_r (congrArg (upd a4 0) (dd_dfI 63 (by omega) x hx)) ?_)
  · subst z
    exact dd_fB32_2 hV hW h3 hm dd_J0 H
  · exact dd_fB32_2 hV hW h3 hm (dd_J1 hx z) H
theorem dd_c9_2 {post : Int32 → St2 → Prop} {V W : Nat → Nat} {m x n R : Nat} (hV : ∀ d, d < 2 → V d < 64 ∧ a1 d = nI (V d)) (hW : ∀ d, d < 2 → W d < 64 ∧ a2 d = nI (W d)) (h3 : ∀ d, d < 2 → a3 d = 0) (hm : m < 64) (hx : x < 64) (J : dd_J V W m x n R a4) (hS : dd_stab V W m R)
    (H : ∀ (y : Nat), dd_is V W m x y → post (nI y) (2, nI m, nI n, fs, ft, fk, fp, fr, a1, a2, a3, a4, a5, a6, a7, a8, a9, a10, a11, a12, a13, a14)) :
    ∃ fu, wX_closeSet_2_9 post 2 (nI m) (nI n) fs ft fk fp fr a1 a2 a3 a4 a5 a6 a7 a8 a9 a10 a11 a12 a13 a14 fu (nI x) 0 := by
  have n6 := dd_Jn J
  have J2 := J
  obtain ⟨j1, j2, j3, j4, j5, j6, j7⟩ := J2
  refine pk_loop (fun N i (o : Nat) => wX_closeSet_2_9 post 2 (nI m) (nI n) fs ft fk fp fr a1 a2 a3 a4 a5 a6 a7 a8 a9 a10 a11 a12 a13 a14 N (nI o) (nI i))
    (fun i o => o < 64 ∧ (i < n → ∀ c, c < 6 → (o.testBit c = true ↔ x.testBit c = true ∨ ∃ k, k < i ∧ a4 k = nI (2 ^ c))) ∧ (i = n → dd_is V W m x o)) n 0 x (Nat.zero_le _) ⟨hx, fun _ c hc => ⟨Or.inl, ?_⟩, fun h => ?_⟩ ?_ ?_
  · rintro (z | ⟨k, hk, _⟩)
    · exact z
    · omega
  · have hR : R = 0 := j3 h.symm
    refine dd_fin2 J hx hS hx (fun c hc => ?_) (fun c hc z => ?_)
    · rw [j6 c hc]
      constructor
      · exact Or.inl
      · rintro (z | ⟨k, hk, _⟩)
        · exact z
        · omega
    · have : 0 < 2 ^ c := Nat.two_pow_pos c
      omega
  · intro N o h
    exact pk_le n n (fun _ => H o (h.2.2 rfl)) (fun z => absurd z (by omega))
  · intro N i o hi h hw
    obtain ⟨h1, h2, _⟩ := h
    have h2 := h2 hi
    have e : (nI i).toNatClampNeg = i := nI_clamp (by omega)
    refine pk_le n i (fun z => absurd z (by omega)) (fun _ => ⟨pk_in i 6 (by omega), pk_in i 6 (by omega), ?_⟩)
    rw [e]
    by_cases z : i + 1 < n
    · obtain ⟨c, hc, hb, hdet⟩ := j5 i z
      rw [hb]
      refine ek_if (dd_al _ (dd_pwL c hc)) (fun _ => ?_) (fun q => absurd (by rw [dd_pcw c hc]; omega) q)
      refine br_f dd_10 ⟨pk_in i 6 (by omega), ?_⟩
      rw [e, hb]
      refine dd_lo hc ?_
      refine dd_iD hV hW h3 hm hc (fun _ => ?_) (fun q => absurd hdet q)
      refine br_f dd_10 ⟨pk_in i 6 (by omega), nm_r (dd_or o _) (nm_r (nI_1 i) (hw (o ||| 2 ^ c) ⟨dd_orL h1 (dd_pwL c hc), fun _ f hf => ?_, fun g => absurd g (by omega)⟩))⟩
      rw [Nat.testBit_or, Bool.or_eq_true, h2 f hf, dd_2b c hc f hf]
      constructor
      · rintro ((g | ⟨k, g1, g2⟩) | g)
        · exact Or.inl g
        · exact Or.inr ⟨k, by omega, g2⟩
        · have := of_decide_eq_true g
          subst this
          exact Or.inr ⟨i, by omega, hb⟩
      · rintro (g | ⟨k, g1, g2⟩)
        · exact Or.inl (Or.inl g)
        · by_cases y : k = i
          · subst y
            rw [hb] at g2
            exact Or.inr (decide_eq_true (dd_2i c hc f hf g2))
          · exact Or.inl (Or.inr ⟨k, by omega, g2⟩)
    · have hk : n = i + 1 := by omega
      obtain ⟨hR0, hb⟩ := j4 i hk
      have ho : ∀ c, c < 6 → (o.testBit c = true ↔ R.testBit c = false) := fun c hc => by
        rw [h2 c hc, j6 c hc]
        constructor
        · rintro (g | ⟨k, g1, g2⟩)
          · exact Or.inl g
          · exact Or.inr ⟨k, by omega, g2⟩
        · rintro (g | ⟨k, g1, g2⟩)
          · exact Or.inl g
          · exact Or.inr ⟨k, by omega, g2⟩
      rw [hb]
      refine ek_if (dd_al R j1) (fun q => ?_) (fun q => ?_)
      · obtain ⟨c, hc, hcb⟩ := dd_ne j1 hR0
        have hRc := dd_pc1 R j1 q c hc hcb
        have hb' : a4 i = nI (2 ^ c) := by rw [hb, hRc]
        refine br_f dd_10 ⟨pk_in i 6 (by omega), ?_⟩
        rw [e, hb']
        refine dd_lo hc ?_
        refine dd_iD hV hW h3 hm hc (fun hdet => ?_) (fun hdet => ?_)
        · refine br_f dd_10 ⟨pk_in i 6 (by omega), nm_r (dd_or o _) (nm_r (nI_1 i) (hw (o ||| 2 ^ c) ⟨dd_orL h1 (dd_pwL c hc), fun g => absurd g (by omega), fun _ => ?_⟩))⟩
          have e63 : o ||| 2 ^ c = 63 := by
            apply dd_ext (dd_orL h1 (dd_pwL c hc)) (by omega)
            intro f hf
            rw [dd_63b f hf, Nat.testBit_or, Bool.or_eq_true, ho f hf, ← hRc]
            cases R.testBit f <;> simp
          rw [e63]
          exact dd_fin1 J hx hc hRc hdet
        · refine br_t rfl (nm_r (nI_1 i) (hw o ⟨h1, fun g => absurd g (by omega), fun _ => ?_⟩))
          refine dd_fin2 J hx hS h1 ho (fun f hf hRf hdf => hdet ?_)
          have : 2 ^ c = 2 ^ f := hRc.symm.trans hRf
          rw [dd_2i c hc f hf (by rw [this])]
          exact hdf
      · refine br_t rfl (nm_r (nI_1 i) (hw o ⟨h1, fun g => absurd g (by omega), fun _ => ?_⟩))
        refine dd_fin2 J hx hS h1 ho (fun f hf hRf hdf => q ?_)
        rw [hRf, dd_pcw f hf]
        omega
/-- closeSet gives the closure; of the desk it changes the blocks alone -/
theorem dd_cS_2 {post : Int32 → St2 → Prop} {V W : Nat → Nat} {m x : Nat} (hV : ∀ d, d < 2 → V d < 64 ∧ a1 d = nI (V d)) (hW : ∀ d, d < 2 → W d < 64 ∧ a2 d = nI (W d)) (h3 : ∀ d, d < 2 → a3 d = 0) (hm : m < 64) (hx : x < 64)
    (H : ∀ (y : Nat) (n : Int32) (bl : Nat → Int32), dd_is V W m x y → post (nI y) (2, nI m, n, fs, ft, fk, fp, fr, a1, a2, a3, bl, a5, a6, a7, a8, a9, a10, a11, a12, a13, a14)) :
    wpX_closeSet_2 post (2, nI m, fb, fs, ft, fk, fp, fr, a1, a2, a3, a4, a5, a6, a7, a8, a9, a10, a11, a12, a13, a14) (nI x) := by
  unfold wpX_closeSet_2
  exact dd_fB_2 hV hW h3 hm hx (fun n R bl J hS => dd_c9_2 hV hW h3 hm hx J hS (fun y hy => H y (nI n) bl hy))
end
end
section
section
variable {fc fm fb fs ft fk fp fr : Int32} {a1 a2 a3 a4 a5 a6 a7 a8 a9 a10 a11 a12 a13 a14 : Nat → Int32}
theorem dd_sh1 : ∀ c, c < 6 → ((1 : Int32) <<< (nI c &&& 31)) - 1 = nI (2 ^ c - 1) := by decide +kernel
theorem dd_cB24 {post : Int32 → Prop} {J7 : Int32 → Int32 → Int32 → Prop} {x4 x5 : Int32} {t o : Nat} (ht : t ≤ 64) (h5 : ∀ j, j < 64 → ∃ y, y < 64 ∧ a5 j = nI y) (h6 : ∀ k, k < t → ∃ y, y < 64 ∧ a6 k = nI y) (ho : o < 64)
    (HJ : ∀ (o : Nat) (r : Int32), o < 64 → J7 (nI o) r (x4 + 1)) : ∃ fu, wX_closedByStems_24 post J7 x4 x5 fc fm fb fs (nI t) fk fp fr a1 a2 a3 a4 a5 a6 a7 a8 a9 a10 a11 a12 a13 a14 fu (nI o) 0 := by
  refine pk_loop (fun N k (o : Nat) => wX_closedByStems_24 post J7 x4 x5 fc fm fb fs (nI t) fk fp fr a1 a2 a3 a4 a5 a6 a7 a8 a9 a10 a11 a12 a13 a14 N (nI o) (nI k)) (fun _ o => o < 64) t 0 o (Nat.zero_le _) ho ?_ ?_
  · intro N o h
    exact pk_le t t (fun _ => br_c (fun _ => nm_e (HJ o 0 h)) (fun _ => nm_e (HJ o 1 h))) (fun z => absurd z (by omega))
  · intro N k o hk h hw
    have e : (nI k).toNatClampNeg = k := nI_clamp (by omega)
    obtain ⟨y, hy, e6⟩ := h6 k hk
    obtain ⟨q, hq, e5⟩ := h5 y hy
    have ey : (nI y).toNatClampNeg = y := nI_clamp (by omega)
    refine pk_le t k (fun z => absurd z (by omega)) (fun _ => ⟨pk_in k 64 (by omega), ?_⟩)
    rw [e, e6]
    refine dd_wI hy h (fun _ => ?_) (fun _ => ?_)
    · refine br_f (by decide) ⟨pk_in k 64 (by omega), br_c (fun _ => ?_) (fun _ => ?_)⟩
      · exact br_t rfl (nm_r (nI_1 k) (hw o h))
      · refine br_f (by decide) ⟨pk_in k 64 (by omega), ?_⟩
        rw [e, e6, ey, e5, dd_or]
        exact ⟨pk_in y 64 hy, nm_e (nm_r (nI_1 k) (hw (o ||| q) (dd_orL h hq)))⟩
    · exact br_t rfl (br_t rfl (nm_r (nI_1 k) (hw o h)))
theorem dd_cB {post : Int32 → Prop} {t x : Nat} (ht : t ≤ 64) (h5 : ∀ j, j < 64 → ∃ y, y < 64 ∧ a5 j = nI y) (h6 : ∀ k, k < t → ∃ y, y < 64 ∧ a6 k = nI y) (hx : x < 64)
    (H : ∀ y, y < 64 → post (nI y)) : wpX_closedByStems post (fc, fm, fb, fs, nI t, fk, fp, fr, a1, a2, a3, a4, a5, a6, a7, a8, a9, a10, a11, a12, a13, a14) (nI x) := by
  refine pk_loop (σ := Nat × Int32) (fun N i s => wX_closedByStems_7 post fc fm fb fs (nI t) fk fp fr a1 a2 a3 a4 a5 a6 a7 a8 a9 a10 a11 a12 a13 a14 N (nI s.1) s.2 (nI i)) (fun _ s => s.1 < 64) 7 0 (x, 1) (by omega) hx ?_ ?_
  · intro N s h
    exact pk_le 7 7 (fun _ => H s.1 h) (fun z => absurd z (by omega))
  · intro N i s hi h hw
    refine pk_le 7 i (fun z => absurd z (by omega)) (fun _ => br_c (fun _ => H s.1 h) (fun _ => ?_))
    refine dd_cB24 ht h5 h6 h (fun o r ho => ?_)
    rw [nI_1 i]
    exact hw (o, r) ho
theorem dd_nS {post : Int32 → Prop} {t x : Nat} (ht : t ≤ 64) (h5 : ∀ j, j < 64 → ∃ y, y < 64 ∧ a5 j = nI y) (h6 : ∀ k, k < t → ∃ y, y < 64 ∧ a6 k = nI y) (hx : x < 64)
    (Hn : post (-1)) (H : ∀ y, y < 64 → post (nI y)) : wpX_nextSet post (fc, fm, fb, fs, nI t, fk, fp, fr, a1, a2, a3, a4, a5, a6, a7, a8, a9, a10, a11, a12, a13, a14) (nI x) := by
  have h := pk_loopD (σ := Unit) (fun N i _ => wX_nextSet_2 post (nI x) fc fm fb fs (nI t) fk fp fr a1 a2 a3 a4 a5 a6 a7 a8 a9 a10 a11 a12 a13 a14 N (nI i + (-1))) (fun i _ => i ≤ 6)
    (fun N _ _ => br_t (by decide) Hn)
    (fun N i _ hi hw => by
      show wX_nextSet_2 post (nI x) fc fm fb fs (nI t) fk fp fr a1 a2 a3 a4 a5 a6 a7 a8 a9 a10 a11 a12 a13 a14 (N + 1) (nI (i + 1) + (-1))
      rw [pk_m1 i]
      have hN := hw () (show i ≤ 6 by omega)
      refine br_f (nI_pos (by omega)) (dd_b0 x i rfl hx (by omega) (fun z => nm_r (dd_sh1 i (by omega)) ?_) (fun z => nm_e hN))
      rw [dd_and, dd_sh i (by omega), dd_or]
      refine dd_cB ht h5 h6 (dd_orL (dd_andL _ hx) (dd_pwL i (by omega))) (fun y hy => ?_)
      exact br_c (fun _ => H y hy) (fun _ => nm_e hN)) 6 () (Nat.le_refl 6)
  exact ⟨7, h⟩
theorem dd_fS82 {post : St2 → Prop} {J34 : Int32 → Int32 → Int32 → (Nat → Int32) → (Nat → Int32) → (Nat → Int32) → (Nat → Int32) → (Nat → Int32) → (Nat → Int32) → (Nat → Int32) → (Nat → Int32) → (Nat → Int32) → (Nat → Int32) → (Nat → Int32) → (Nat → Int32) → (Nat → Int32) → (Nat → Int32) → Prop} {t x i : Nat} (ht : t ≤ 64) (h5 : ∀ j, j < 64 → ∃ y, y < 64 ∧ a5 j = nI y) (h6 : ∀ k, k < t → ∃ y, y < 64 ∧ a6 k = nI y) (hx : x < 64)
    (HJ : ∀ r : Int32, (r = -1 ∨ ∃ y, y < 64 ∧ r = nI y) → J34 r (nI (i + 1)) (nI t) a1 a2 a3 a4 a5 a6 a7 a8 a9 a10 a11 a12 a13 a14) : wX_findStems_82 post J34 (nI x) (nI i) fc fm fb fs (nI t) fk fp fr a1 a2 a3 a4 a5 a6 a7 a8 a9 a10 a11 a12 a13 a14 :=
  br_c (fun _ => nm_r (nI_1 i) (HJ _ (Or.inl rfl))) (fun _ => dd_nS ht h5 h6 hx (nm_r (nI_1 i) (HJ _ (Or.inl rfl))) (fun y hy => nm_r (nI_1 i) (HJ _ (Or.inr ⟨y, hy, rfl⟩))))
theorem dd_fS34 {post : St2 → Prop} {x : Nat} (h5 : ∀ j, j < 64 → ∃ y, y < 64 ∧ a5 j = nI y) (hx : x < 64)
    (H : ∀ (t : Int32) (b6 b7 : Nat → Int32), post (fc, fm, fb, fs, t, fk, fp, fr, a1, a2, a3, a4, a5, b6, b7, a8, a9, a10, a11, a12, a13, a14)) : ∃ fu, wX_findStems_34 post fc fm fb fs fk fp fr fu (nI x) 0 0 a1 a2 a3 a4 a5 a6 a7 a8 a9 a10 a11 a12 a13 a14 := by
  refine pk_loop (σ := Int32 × Nat × (Nat → Int32) × (Nat → Int32)) (fun N i s => wX_findStems_34 post fc fm fb fs fk fp fr N s.1 (nI i) (nI s.2.1) a1 a2 a3 a4 a5 s.2.2.1 s.2.2.2 a8 a9 a10 a11 a12 a13 a14)
    (fun i s => (s.1 = -1 ∨ ∃ y, y < 64 ∧ s.1 = nI y) ∧ s.2.1 ≤ i ∧ ∀ k, k < s.2.1 → ∃ y, y < 64 ∧ s.2.2.1 k = nI y) 64 0 (nI x, 0, a6, a7) (by omega) ⟨Or.inr ⟨x, hx, rfl⟩, Nat.le_refl 0, fun k hk => absurd hk (Nat.not_lt_zero k)⟩ ?_ ?_
  · intro N s h
    exact pk_le 64 64 (fun _ => H _ _ _) (fun z => absurd z (by omega))
  · intro N i s hi h hw
    obtain ⟨r, t, b6, b7⟩ := s
    obtain ⟨h1, h2p, h6p⟩ := h
    have h2 : t ≤ i := h2p
    have h6 : ∀ k, k < t → ∃ y, y < 64 ∧ b6 k = nI y := h6p
    clear h2p h6p
    refine pk_le 64 i (fun z => absurd z (by omega)) (fun _ => ?_)
    rcases h1 with h1 | ⟨y, hy, h1⟩
    · have h1 : r = -1 := h1
      subst h1
      exact br_t rfl (H _ _ _)
    · have h1 : r = nI y := h1
      subst h1
      have et : (nI t).toNatClampNeg = t := nI_clamp (by omega)
      refine br_f (fun z => ?_) ⟨pk_in y 64 hy, br_c (fun _ => ?_) (fun _ => ⟨pk_in y 64 hy, nm_e ⟨pk_in t 64 (by omega), nm_e (nm_r (nI_1 t) ?_)⟩⟩)⟩
      · have z : nI y = -1 := z
        have := nI_pos (n := y) (by omega)
        rw [z] at this
        exact this (by decide)
      · exact dd_fS82 (show t ≤ 64 by omega) h5 h6 hy (fun r hr => hw (r, t, b6, b7) ⟨hr, by show t ≤ i + 1; omega, h6⟩)
      · have h6' : ∀ k, k < t + 1 → ∃ q, q < 64 ∧ upd b6 (nI t).toNatClampNeg (nI y) k = nI q := by
          intro k hk
          rw [et]
          by_cases g : k = t
          · exact ⟨y, hy, by rw [g, pk_us]⟩
          · obtain ⟨q, hq, eq⟩ := h6 k (by omega)
            exact ⟨q, hq, by rw [pk_un g, eq]⟩
        exact dd_fS82 (show t + 1 ≤ 64 by omega) h5 h6' hy (fun r hr => hw (r, t + 1, _, _) ⟨hr, by show t + 1 ≤ i + 1; omega, h6'⟩)
/-- findStems ends; of the desk it changes the stems alone -/
theorem dd_fS {post : St2 → Prop} (h5 : ∀ j, j < 64 → ∃ y, y < 64 ∧ a5 j = nI y)
    (H : ∀ (t : Int32) (b6 b7 : Nat → Int32), post (fc, fm, fb, fs, t, fk, fp, fr, a1, a2, a3, a4, a5, b6, b7, a8, a9, a10, a11, a12, a13, a14)) : wpX_findStems post (fc, fm, fb, fs, ft, fk, fp, fr, a1, a2, a3, a4, a5, a6, a7, a8, a9, a10, a11, a12, a13, a14) := by
  refine pk_loop (fun N i (b7 : Nat → Int32) => wX_findStems_7 post fc fm fb fs 0 fk fp fr N (nI i) a1 a2 a3 a4 a5 a6 b7 a8 a9 a10 a11 a12 a13 a14) (fun _ _ => True) 64 0 a7 (by omega) trivial ?_ ?_
  · intro N b7 _
    exact pk_le 64 64 (fun _ => dd_cB (t := 0) (x := 0) (by omega) h5 (fun k hk => absurd hk (by omega)) (by omega) (fun y hy => dd_fS34 h5 hy (fun t b6 b7 => H t b6 b7))) (fun z => absurd z (by omega))
  · intro N i b7 hi _ hw
    exact pk_le 64 i (fun z => absurd z (by omega)) (fun _ => ⟨pk_in i 64 hi, nm_e (nm_r (nI_1 i) (hw _ trivial))⟩)
end
end
section
/-! ===== keys: of the sets that give 63 one of two is a subset ===== -/
theorem dd_sbT {x y z : Nat} (h : dd_sb x y) (g : dd_sb y z) : dd_sb x z := fun c hc hb => g c hc (h c hc hb)
theorem dd_sbR (x : Nat) : dd_sb x x := fun _ _ h => h
theorem dd_isM {V W : Nat → Nat} {m x x' y y' : Nat} (h : dd_is V W m x y) (h' : dd_is V W m x' y') (hs : dd_sb x x') : dd_sb y y' :=
  h.2.2.2 y' (dd_sbT hs h'.2.1) h'.2.2.1
theorem dd_63s {y : Nat} (hy : y < 64) (h : dd_sb 63 y) : y = 63 :=
  dd_ext hy (by omega) (fun c hc => by rw [h c hc (dd_63b c hc), dd_63b c hc])
theorem dd_sbD {x y c : Nat} (hc : c < 6) (h : dd_sb x y) (hx : x.testBit c = false) : dd_sb x (dd_df y (2 ^ c)) := by
  intro e he hb
  rw [dd_dfb y _ he, h e he hb, dd_2b c hc e he, Bool.true_and]
  by_cases z : c = e
  · subst z
    rw [hx] at hb
    exact absurd hb (by decide)
  · rw [decide_eq_false z]; rfl
theorem dd_dfS (x y : Nat) : dd_sb (dd_df x y) x := fun c hc hb => by
  rw [dd_dfb x y hc] at hb
  revert hb
  cases x.testBit c <;> simp
theorem dd_neS {x y : Nat} (hx : x < 64) (hy : y < 64) (h : dd_sb x y) (hn : x ≠ y) : ∃ c, c < 6 ∧ y.testBit c = true ∧ x.testBit c = false := by
  refine Classical.byContradiction (fun g => hn (dd_ext hx hy (fun c hc => ?_)))
  cases hb : y.testBit c
  · cases hb' : x.testBit c
    · rfl
    · have := h c hc hb'
      rw [hb] at this
      exact absurd this (by decide)
  · cases hb' : x.testBit c
    · exact absurd ⟨c, hc, hb, hb'⟩ g
    · rfl
/-- a table of closures -/
def dd_tab (V W : Nat → Nat) (C : Nat → Nat) : Prop := ∀ j, j < 64 → dd_is V W 3 j (C j)
theorem dd_tM {V W C : Nat → Nat} (hC : dd_tab V W C) {x y : Nat} (hx : x < 64) (hy : y < 64) (hs : dd_sb x y) (h : C x = 63) : C y = 63 := by
  have g := dd_isM (hC x hx) (hC y hy) hs
  rw [h] at g
  exact dd_63s (hC y hy).1 g
/-- the first key: what a, then c, gives all -/
def dd_K1 (V W : Nat → Nat) : Nat := V 0 ||| (dd_df (V 1) (W 0) ||| dd_df 63 (W 0 ||| W 1))
def dd_K2 (V W : Nat → Nat) : Nat := V 1 ||| (dd_df (V 0) (W 1) ||| dd_df 63 (W 0 ||| W 1))
theorem dd_K1b (V W : Nat → Nat) {c : Nat} (hc : c < 6) : (dd_K1 V W).testBit c = ((V 0).testBit c || (((V 1).testBit c && !(W 0).testBit c) || !((W 0).testBit c || (W 1).testBit c))) := by
  unfold dd_K1
  rw [Nat.testBit_or, Nat.testBit_or, dd_dfb _ _ hc, dd_dfb _ _ hc, dd_63b c hc, Nat.testBit_or, Bool.true_and]
theorem dd_K2b (V W : Nat → Nat) {c : Nat} (hc : c < 6) : (dd_K2 V W).testBit c = ((V 1).testBit c || (((V 0).testBit c && !(W 1).testBit c) || !((W 0).testBit c || (W 1).testBit c))) := by
  unfold dd_K2
  rw [Nat.testBit_or, Nat.testBit_or, dd_dfb _ _ hc, dd_dfb _ _ hc, dd_63b c hc, Nat.testBit_or, Bool.true_and]
theorem dd_clI {V W : Nat → Nat} {T : Nat} (h0 : dd_sb (V 0) T → dd_sb (W 0) T) (h1 : dd_sb (V 1) T → dd_sb (W 1) T) (m : Nat) : dd_cl V W m T := by
  intro d hd _
  rcases d with _ | _ | d
  · exact h0
  · exact h1
  · omega
theorem dd_cl0 {V W : Nat → Nat} {T : Nat} (h : dd_cl V W 3 T) : dd_sb (V 0) T → dd_sb (W 0) T := h 0 (by omega) (by decide)
theorem dd_cl1 {V W : Nat → Nat} {T : Nat} (h : dd_cl V W 3 T) : dd_sb (V 1) T → dd_sb (W 1) T := h 1 (by omega) (by decide)
theorem dd_K1is {V W C : Nat → Nat} (hC : dd_tab V W C) (hK : dd_K1 V W < 64) : C (dd_K1 V W) = 63 := by
  obtain ⟨h1, h2, h3, _⟩ := hC _ hK
  refine dd_63s h1 (fun c hc _ => ?_)
  have b0 : dd_sb (W 0) (C (dd_K1 V W)) := dd_cl0 h3 (fun e he hb => h2 e he (by rw [dd_K1b V W he, hb]; rfl))
  have b1 : dd_sb (W 1) (C (dd_K1 V W)) := dd_cl1 h3 (fun e he hb => by
    cases hw : (W 0).testBit e
    · exact h2 e he (by rw [dd_K1b V W he, hb, hw]; simp)
    · exact b0 e he hw)
  cases hw : (W 0).testBit c
  · cases hw' : (W 1).testBit c
    · exact h2 c hc (by rw [dd_K1b V W hc, hw, hw']; simp)
    · exact b1 c hc hw'
  · exact b0 c hc hw
theorem dd_K2is {V W C : Nat → Nat} (hC : dd_tab V W C) (hK : dd_K2 V W < 64) : C (dd_K2 V W) = 63 := by
  obtain ⟨h1, h2, h3, _⟩ := hC _ hK
  refine dd_63s h1 (fun c hc _ => ?_)
  have b1 : dd_sb (W 1) (C (dd_K2 V W)) := dd_cl1 h3 (fun e he hb => h2 e he (by rw [dd_K2b V W he, hb]; rfl))
  have b0 : dd_sb (W 0) (C (dd_K2 V W)) := dd_cl0 h3 (fun e he hb => by
    cases hw : (W 1).testBit e
    · exact h2 e he (by rw [dd_K2b V W he, hb, hw]; simp)
    · exact b1 e he hw)
  cases hw : (W 0).testBit c
  · cases hw' : (W 1).testBit c
    · exact h2 c hc (by rw [dd_K2b V W hc, hw, hw']; simp)
    · exact b1 c hc hw'
  · exact b0 c hc hw
theorem dd_orS {x y z : Nat} (h1 : dd_sb x z) (h2 : dd_sb y z) : dd_sb (x ||| y) z := fun c hc hb => by
  rw [Nat.testBit_or, Bool.or_eq_true] at hb
  rcases hb with hb | hb
  · exact h1 c hc hb
  · exact h2 c hc hb
theorem dd_orSl (x y : Nat) : dd_sb x (x ||| y) := fun c hc hb => by rw [Nat.testBit_or, hb]; rfl
theorem dd_orSr (x y : Nat) : dd_sb y (x ||| y) := fun c hc hb => by rw [Nat.testBit_or, hb, Bool.or_true]
/-- if no closed set above x misses column e, then e is in x's closure: here, all columns are -/
theorem dd_all {V W C : Nat → Nat} (hC : dd_tab V W C) {x T : Nat} (hx : x < 64) (h : C x = 63) (hT : dd_sb x T) (hc : dd_cl V W 3 T) {e : Nat} (he : e < 6) : T.testBit e = true := by
  obtain ⟨_, _, _, h4⟩ := hC x hx
  rw [h] at h4
  exact h4 T hT hc e he (dd_63b e he)
theorem dd_Kor {V W C : Nat → Nat} (hC : dd_tab V W C) {x : Nat} (hx : x < 64) (h : C x = 63) : dd_sb (dd_K1 V W) x ∨ dd_sb (dd_K2 V W) x := by
  have hU : ∀ e, e < 6 → (x ||| (W 0 ||| W 1)).testBit e = true := fun e he =>
    dd_all hC hx h (dd_orSl x _) (dd_clI (fun _ => dd_sbT (dd_orSl (W 0) (W 1)) (dd_orSr x _)) (fun _ => dd_sbT (dd_orSr (W 0) (W 1)) (dd_orSr x _)) 3) he
  by_cases ha : dd_sb (V 0) x
  · refine Or.inl (fun e he hb => ?_)
    rw [dd_K1b V W he] at hb
    cases hxe : x.testBit e
    · have hva : (V 0).testBit e = false := by
        cases q : (V 0).testBit e
        · rfl
        · rw [ha e he q] at hxe
          exact absurd hxe (by decide)
      have hu := hU e he
      rw [Nat.testBit_or, Nat.testBit_or, hxe, Bool.false_or] at hu
      rw [hva, hu, Bool.false_or, Bool.not_true, Bool.or_false, Bool.and_eq_true] at hb
      have hw0 : (W 0).testBit e = false := by
        have := hb.2
        revert this
        cases (W 0).testBit e <;> simp
      have := dd_all hC hx h (dd_orSl x (W 0)) (dd_clI (fun _ => dd_orSr x (W 0)) (fun g => by
        have := g e he hb.1
        rw [Nat.testBit_or, hxe, hw0] at this
        exact absurd this (by decide)) 3) he
      rw [Nat.testBit_or, hxe, hw0] at this
      exact absurd this (by decide)
    · rfl
  · by_cases hcx : dd_sb (V 1) x
    · refine Or.inr (fun e he hb => ?_)
      rw [dd_K2b V W he] at hb
      cases hxe : x.testBit e
      · have hva : (V 1).testBit e = false := by
          cases q : (V 1).testBit e
          · rfl
          · rw [hcx e he q] at hxe
            exact absurd hxe (by decide)
        have hu := hU e he
        rw [Nat.testBit_or, Nat.testBit_or, hxe, Bool.false_or] at hu
        rw [hva, hu, Bool.false_or, Bool.not_true, Bool.or_false, Bool.and_eq_true] at hb
        have hw1 : (W 1).testBit e = false := by
          have := hb.2
          revert this
          cases (W 1).testBit e <;> simp
        have := dd_all hC hx h (dd_orSl x (W 1)) (dd_clI (fun g => by
          have := g e he hb.1
          rw [Nat.testBit_or, hxe, hw1] at this
          exact absurd this (by decide)) (fun _ => dd_orSr x (W 1)) 3) he
        rw [Nat.testBit_or, hxe, hw1] at this
        exact absurd this (by decide)
      · rfl
    · exact absurd (fun e he _ => dd_all hC hx h (dd_sbR x) (dd_clI (fun g => absurd g ha) (fun g => absurd g hcx) 3) he) ha
section
variable {fc fm fb fs ft fk fp fr : Int32} {a1 a2 a3 a4 a5 a6 a7 a8 a9 a10 a11 a12 a13 a14 : Nat → Int32}
theorem dd_rd {post : Int32 → Prop} {V W C : Nat → Nat} (hC : dd_tab V W C) (h5 : ∀ j, j < 64 → a5 j = nI (C j)) {x : Nat} (hx : x < 64) (hx3 : C x = 63)
    (H : ∀ y, y < 64 → dd_sb y x → C y = 63 → (∀ z, z < 64 → dd_sb z y → C z = 63 → z = y) → post (nI y)) : wpX_reduced post (fc, fm, fb, fs, ft, fk, fp, fr, a1, a2, a3, a4, a5, a6, a7, a8, a9, a10, a11, a12, a13, a14) (nI x) := by
  have h := pk_loopD (fun N i (o : Nat) => wX_reduced_4 post fc fm fb fs ft fk fp fr a1 a2 a3 a4 a5 a6 a7 a8 a9 a10 a11 a12 a13 a14 N (nI o) (nI i + (-1))) (fun i o => i ≤ 6 ∧ o < 64 ∧ dd_sb o x ∧ C o = 63 ∧ ∀ c, i ≤ c → c < 6 → o.testBit c = true → C (dd_df o (2 ^ c)) ≠ 63)
    (fun N o h => by
      obtain ⟨_, h1, h2, h3, h4⟩ := h
      refine br_t (by decide) (H o h1 h2 h3 (fun z hz hzo hz3 => ?_))
      refine Classical.byContradiction (fun g => ?_)
      obtain ⟨c, hc, c1, c2⟩ := dd_neS hz h1 hzo g
      exact h4 c (Nat.zero_le c) hc c1 (dd_tM hC hz (dd_dfL _ h1) (dd_sbD hc hzo c2) hz3))
    (fun N i o h hw => by
      obtain ⟨h0, h1, h2, h3, h4⟩ := h
      show wX_reduced_4 post fc fm fb fs ft fk fp fr a1 a2 a3 a4 a5 a6 a7 a8 a9 a10 a11 a12 a13 a14 (N + 1) (nI o) (nI (i + 1) + (-1))
      rw [pk_m1 i]
      have hi : i < 6 := by omega
      have hL := dd_dfL (2 ^ i) h1
      have e : (nI (dd_df o (2 ^ i))).toNatClampNeg = dd_df o (2 ^ i) := nI_clamp (by omega)
      have hc64 := (hC _ hL).1
      refine br_f (nI_pos (by omega)) (nm_r (by rw [dd_sh i hi, dd_dfI o h1 _ (dd_pwL i hi)]) ⟨pk_in _ 64 hL, ?_⟩)
      rw [e, h5 _ hL]
      refine pk_eq (C (dd_df o (2 ^ i))) 63 (fun z => nm_e (hw _ ⟨by omega, hL, dd_sbT (dd_dfS _ _) h2, z, fun c h6 hc hb g => ?_⟩)) (fun z => nm_e (hw o ⟨by omega, h1, h2, h3, fun c h6 hc hb => ?_⟩))
      · by_cases y : c = i
        · subst y
          rw [dd_dfb _ _ hc, dd_2b c hc c hc, decide_eq_true rfl, Bool.not_true, Bool.and_false] at hb
          exact absurd hb (by decide)
        · refine h4 c (by omega) hc (dd_dfS _ _ c hc hb) (dd_tM hC (dd_dfL _ hL) (dd_dfL _ h1) ?_ g)
          intro f hf hbf
          rw [dd_dfb _ _ hf] at hbf ⊢
          rw [Bool.and_eq_true] at hbf ⊢
          exact ⟨dd_dfS _ _ f hf hbf.1, hbf.2⟩
      · by_cases y : c = i
        · subst y
          exact z
        · exact h4 c (by omega) hc hb) 6 x ⟨by omega, hx, dd_sbR x, hx3, fun c h6 hc => absurd hc (by omega)⟩
  exact ⟨7, h⟩
theorem dd_hK {post : Int32 → Prop} {n x : Nat} {K : Nat → Nat} (hn : n ≤ 20) (h8 : ∀ k, k < n → K k < 64 ∧ a8 k = nI (K k)) (hx : x < 64)
    (H1 : (∃ k, k < n ∧ dd_sb (K k) x) → post 1) (H0 : (∀ k, k < n → ¬ dd_sb (K k) x) → post 0) : wpX_hasKeyWithin post (fc, fm, fb, fs, ft, nI n, fp, fr, a1, a2, a3, a4, a5, a6, a7, a8, a9, a10, a11, a12, a13, a14) (nI x) := by
  refine pk_loop (fun N i (s : Int32) => wX_hasKeyWithin_4 post (nI x) fc fm fb fs ft (nI n) fp fr a1 a2 a3 a4 a5 a6 a7 a8 a9 a10 a11 a12 a13 a14 N s (nI i)) (fun i s => (s = 0 ∧ ∀ k, k < i → ¬ dd_sb (K k) x) ∨ (s = 1 ∧ ∃ k, k < n ∧ dd_sb (K k) x)) n 0 0 (Nat.zero_le _) (Or.inl ⟨rfl, fun k hk => absurd hk (by omega)⟩) ?_ ?_
  · intro N s h
    rcases h with ⟨e, h⟩ | ⟨e, h⟩
    · subst e
      exact pk_le n n (fun _ => ⟨dd_n0, H0 h⟩) (fun z => absurd z (by omega))
    · subst e
      exact pk_le n n (fun _ => ⟨dd_n1, H1 h⟩) (fun z => absurd z (by omega))
  · intro N i s hi h hw
    have e : (nI i).toNatClampNeg = i := nI_clamp (by omega)
    refine pk_le n i (fun z => absurd z (by omega)) (fun _ => ?_)
    rcases h with ⟨es, h⟩ | ⟨es, h⟩
    · subst es
      refine br_t rfl ⟨pk_in i 20 (by omega), ?_⟩
      rw [e, (h8 i hi).2]
      refine dd_wI (h8 i hi).1 hx (fun q => ?_) (fun q => ?_)
      · exact br_f dd_10 (nm_r (nI_1 i) (hw 1 (Or.inr ⟨rfl, i, hi, q⟩)))
      · exact br_t rfl (nm_r (nI_1 i) (hw 0 (Or.inl ⟨rfl, lt_s h q⟩)))
    · subst es
      exact br_f dd_10 (nm_r (nI_1 i) (hw 1 (Or.inr ⟨rfl, h⟩)))
theorem dd_aK0 {post : St2 → Prop} {y : Nat} (H : ∀ b8 : Nat → Int32, b8 0 = nI y → post (fc, fm, fb, fs, ft, nI 1, fp, fr, a1, a2, a3, a4, a5, a6, a7, b8, a9, a10, a11, a12, a13, a14)) : wpX_addKey post (fc, fm, fb, fs, ft, 0, fp, fr, a1, a2, a3, a4, a5, a6, a7, a8, a9, a10, a11, a12, a13, a14) (nI y) :=
  ⟨1, br_t (by decide) ⟨pk_in 0 20 (by omega), nm_e (nm_r (by decide : (0 : Int32) + 1 = nI 1) (H _ pk_us))⟩⟩
theorem dd_aK1 {post : St2 → Prop} {y k : Nat} (h8 : a8 0 = nI k) (H : ∀ b8 : Nat → Int32, ((b8 0 = nI k ∧ b8 1 = nI y) ∨ (b8 0 = nI y ∧ b8 1 = nI k)) → post (fc, fm, fb, fs, ft, nI 2, fp, fr, a1, a2, a3, a4, a5, a6, a7, b8, a9, a10, a11, a12, a13, a14)) : wpX_addKey post (fc, fm, fb, fs, ft, nI 1, fp, fr, a1, a2, a3, a4, a5, a6, a7, a8, a9, a10, a11, a12, a13, a14) (nI y) := by
  have e1 : (nI 1).toNatClampNeg = 1 := nI_clamp (by omega)
  have e0 : (nI 1 - 1).toNatClampNeg = 0 := by decide
  refine ⟨2, br_f (by decide) ⟨pk_in 0 20 (by omega), br_c (fun _ => ⟨pk_in 1 20 (by omega), nm_e (nm_r (nI_1 1) (H _ (Or.inl ⟨?_, ?_⟩)))⟩) (fun _ => ⟨pk_in 0 20 (by omega), pk_in 1 20 (by omega), nm_e (nm_e (nm_e (br_t (by decide) ⟨pk_in 0 20 (by omega), nm_e (nm_r (nI_1 1) (H _ (Or.inr ⟨?_, ?_⟩)))⟩)))⟩)⟩⟩
  · rw [e1, pk_un (by omega), h8]
  · rw [e1, pk_us]
  · rw [e0, pk_us]
  · rw [e0, e1, pk_un (by omega), pk_us, h8]
theorem dd_fK {post : St2 → Prop} {V W C : Nat → Nat} (hC : dd_tab V W C) (h5 : ∀ j, j < 64 → a5 j = nI (C j)) (hV : ∀ d, d < 2 → V d < 64)
    (H : ∀ (k : Int32) (b8 : Nat → Int32), post (fc, fm, fb, fs, ft, k, fp, fr, a1, a2, a3, a4, a5, a6, a7, b8, a9, a10, a11, a12, a13, a14)) : wpX_findKeys post (fc, fm, fb, fs, ft, fk, fp, fr, a1, a2, a3, a4, a5, a6, a7, a8, a9, a10, a11, a12, a13, a14) := by
  have hK1 : dd_K1 V W < 64 := dd_orL (hV 0 (by omega)) (dd_orL (dd_dfL _ (hV 1 (by omega))) (dd_dfL _ (by omega)))
  have hK2 : dd_K2 V W < 64 := dd_orL (hV 1 (by omega)) (dd_orL (dd_dfL _ (hV 0 (by omega))) (dd_dfL _ (by omega)))
  have c1 := dd_K1is hC hK1
  have c2 := dd_K2is hC hK2
  have hmin : ∀ y, y < 64 → C y = 63 → (∀ z, z < 64 → dd_sb z y → C z = 63 → z = y) → y = dd_K1 V W ∨ y = dd_K2 V W := by
    intro y hy hy3 hm
    rcases dd_Kor hC hy hy3 with g | g
    · exact Or.inl (hm _ hK1 g c1).symm
    · exact Or.inr (hm _ hK2 g c2).symm
  have h63 : C 63 = 63 := dd_63s (hC 63 (by omega)).1 (hC 63 (by omega)).2.1
  refine dd_rd (x := 63) hC h5 (by omega) h63 (fun y hy _ hy3 hm => ?_)
  refine dd_aK0 (fun b8 hb => ?_)
  have h := pk_loopD (σ := Nat × (Nat → Int32)) (fun N i s => wX_findKeys_20 post N (nI i + (-1)) fc fm fb fs ft (nI s.1) fp fr a1 a2 a3 a4 a5 a6 a7 s.2 a9 a10 a11 a12 a13 a14)
    (fun i s => i ≤ 64 ∧ ((s.1 = 1 ∧ (s.2 0 = nI (dd_K1 V W) ∨ s.2 0 = nI (dd_K2 V W))) ∨ (s.1 = 2 ∧ ((s.2 0 = nI (dd_K1 V W) ∧ s.2 1 = nI (dd_K2 V W)) ∨ (s.2 0 = nI (dd_K2 V W) ∧ s.2 1 = nI (dd_K1 V W))))))
    (fun N s h => br_t (by decide) (H _ _))
    (fun N i s h hw => by
      obtain ⟨n, b8⟩ := s
      obtain ⟨h0, h⟩ := h
      show wX_findKeys_20 post (N + 1) (nI (i + 1) + (-1)) fc fm fb fs ft (nI n) fp fr a1 a2 a3 a4 a5 a6 a7 b8 a9 a10 a11 a12 a13 a14
      rw [pk_m1 i]
      have hi : i < 64 := by omega
      have e : (nI i).toNatClampNeg = i := nI_clamp (by omega)
      have hi3 := (hC i hi).1
      have hN : wX_findKeys_20 post N (nI i + (-1)) fc fm fb fs ft (nI n) fp fr a1 a2 a3 a4 a5 a6 a7 b8 a9 a10 a11 a12 a13 a14 := hw (n, b8) ⟨by omega, h⟩
      refine br_f (nI_pos (by omega)) ⟨pk_in i 64 hi, ?_⟩
      rw [e, h5 i hi]
      refine pk_eq (C i) 63 (fun z => ?_) (fun z => nm_e hN)
      rcases h with ⟨g1, g2⟩ | ⟨g1, g2⟩
      · have g1 : n = 1 := g1
        subst g1
        have hk : ∃ k, k < 64 ∧ b8 0 = nI k ∧ (k = dd_K1 V W ∨ k = dd_K2 V W) := by
          rcases g2 with g2 | g2
          · exact ⟨_, hK1, g2, Or.inl rfl⟩
          · exact ⟨_, hK2, g2, Or.inr rfl⟩
        obtain ⟨k, hk6, hk8, hk⟩ := hk
        refine dd_hK (n := 1) (K := fun _ => k) (by omega) (fun j hj => ⟨hk6, by rw [show j = 0 by omega]; exact hk8⟩) hi (fun _ => br_f dd_10 (nm_e hN)) (fun q => br_t rfl ?_)
        have q := q 0 (by omega)
        refine dd_rd hC h5 hi z (fun y hy hyi hy3 hm => ?_)
        refine dd_aK1 hk8 (fun b hb => nm_e (hw (2, b) ⟨by omega, Or.inr ⟨rfl, ?_⟩⟩))
        have hne : k ≠ y := fun g => q (by show dd_sb k i; rw [g]; exact hyi)
        show (b 0 = nI (dd_K1 V W) ∧ b 1 = nI (dd_K2 V W)) ∨ (b 0 = nI (dd_K2 V W) ∧ b 1 = nI (dd_K1 V W))
        rcases hmin y hy hy3 hm with ey | ey <;> rcases hk with ek | ek
        · exact absurd (ek.trans ey.symm) hne
        · rw [ey, ek] at hb
          exact hb.symm
        · rw [ey, ek] at hb
          exact hb
        · exact absurd (ek.trans ey.symm) hne
      · have g1 : n = 2 := g1
        subst g1
        have hk : ∃ K : Nat → Nat, (∀ j, j < 2 → K j < 64 ∧ b8 j = nI (K j)) ∧ (∃ j, j < 2 ∧ K j = dd_K1 V W) ∧ (∃ j, j < 2 ∧ K j = dd_K2 V W) := by
          rcases g2 with ⟨p, q⟩ | ⟨p, q⟩
          · exact ⟨fun j => if j = 0 then dd_K1 V W else dd_K2 V W, fun j hj => by
              rcases j with _ | _ | j
              · exact ⟨hK1, p⟩
              · exact ⟨hK2, q⟩
              · omega, ⟨0, by omega, rfl⟩, ⟨1, by omega, rfl⟩⟩
          · exact ⟨fun j => if j = 0 then dd_K2 V W else dd_K1 V W, fun j hj => by
              rcases j with _ | _ | j
              · exact ⟨hK2, p⟩
              · exact ⟨hK1, q⟩
              · omega, ⟨1, by omega, rfl⟩, ⟨0, by omega, rfl⟩⟩
        obtain ⟨K, k1, ⟨j1, k2, k3⟩, ⟨j2, k4, k5⟩⟩ := hk
        refine dd_hK (n := 2) (by omega) k1 hi (fun _ => br_f dd_10 (nm_e hN)) (fun q => ?_)
        rcases dd_Kor hC hi z with g | g
        · exact absurd (by rw [k3]; exact g) (q j1 k2)
        · exact absurd (by rw [k5]; exact g) (q j2 k4)) 64 (1, b8) ⟨by omega, Or.inl ⟨rfl, by
          show b8 0 = nI (dd_K1 V W) ∨ b8 0 = nI (dd_K2 V W)
          rcases hmin y hy hy3 hm with ey | ey
          · rw [← ey]; exact Or.inl hb
          · rw [← ey]; exact Or.inr hb⟩⟩
  exact ⟨65, h⟩
end
end
section
section
variable {fc fm fb fs ft fk fp fr : Int32} {a1 a2 a3 a4 a5 a6 a7 a8 a9 a10 a11 a12 a13 a14 : Nat → Int32}
/-- study, the first time: a table of closures -/
theorem dd_st {post : St2 → Prop} {V W : Nat → Nat} (hV : ∀ d, d < 2 → V d < 64 ∧ a1 d = nI (V d)) (hW : ∀ d, d < 2 → W d < 64 ∧ a2 d = nI (W d)) (h3 : ∀ d, d < 2 → a3 d = 0)
    (H : ∀ (n t k : Int32) (b4 b5 b6 b7 b8 : Nat → Int32) (C : Nat → Nat), dd_tab V W C → (∀ j, j < 64 → b5 j = nI (C j)) → post (2, nI 3, n, 1, t, k, fp, fr, a1, a2, a3, b4, b5, b6, b7, b8, a9, a10, a11, a12, a13, a14)) :
    wpX_study post (2, fm, fb, 0, ft, fk, fp, fr, a1, a2, a3, a4, a5, a6, a7, a8, a9, a10, a11, a12, a13, a14) := by
  refine br_t rfl (nm_r (by decide : ((1 : Int32) <<< ((2 : Int32) &&& 31)) - 1 = nI 3) ?_)
  refine pk_loop (σ := Int32 × (Nat → Int32) × (Nat → Int32)) (fun N i s => wX_study_22 post N (nI i) 2 (nI 3) s.1 0 ft fk fp fr a1 a2 a3 s.2.1 s.2.2 a6 a7 a8 a9 a10 a11 a12 a13 a14) (fun i s => ∀ j, j < i → ∃ y, s.2.2 j = nI y ∧ dd_is V W 3 j y) 64 0 (fb, a4, a5) (by omega) (fun j hj => absurd hj (by omega)) ?_ ?_
  · intro N s h
    obtain ⟨n, b4, b5⟩ := s
    have h : ∀ j, j < 64 → ∃ y, b5 j = nI y ∧ dd_is V W 3 j y := h
    have h5 : ∀ j, j < 64 → b5 j = nI (b5 j).toNatClampNeg ∧ dd_is V W 3 j (b5 j).toNatClampNeg := by
      intro j hj
      obtain ⟨y, e, hy⟩ := h j hj
      have hy6 := hy.1
      rw [e, nI_clamp (by omega)]
      exact ⟨rfl, hy⟩
    refine pk_le 64 64 (fun _ => ?_) (fun z => absurd z (by omega))
    refine dd_fS (fun j hj => ⟨_, (h5 j hj).2.1, (h5 j hj).1⟩) (fun t b6 b7 => ?_)
    refine dd_fK (C := fun j => (b5 j).toNatClampNeg) (fun j hj => (h5 j hj).2) (fun j hj => (h5 j hj).1) (fun d hd => (hV d hd).1) (fun k b8 => ?_)
    exact H n t k b4 b5 b6 b7 b8 _ (fun j hj => (h5 j hj).2) (fun j hj => (h5 j hj).1)
  · intro N i s hi h hw
    have e : (nI i).toNatClampNeg = i := nI_clamp (by omega)
    refine pk_le 64 i (fun z => absurd z (by omega)) (fun _ => dd_cS hV hW h3 (by omega) hi (fun y n bl hy => ⟨pk_in i 64 hi, nm_e (nm_r (nI_1 i) (hw (n, bl, upd s.2.2 (nI i).toNatClampNeg (nI y)) ?_))⟩))
    intro j hj
    show ∃ y', upd s.2.2 (nI i).toNatClampNeg (nI y) j = nI y' ∧ dd_is V W 3 j y'
    rw [e]
    by_cases g : j = i
    · rw [g, pk_us]
      exact ⟨y, rfl, hy⟩
    · rw [pk_un g]
      exact h j (by omega)
theorem dd_clo {post : Int32 → St2 → Prop} {V W : Nat → Nat} {x : Nat} (hV : ∀ d, d < 2 → V d < 64 ∧ a1 d = nI (V d)) (hW : ∀ d, d < 2 → W d < 64 ∧ a2 d = nI (W d)) (h3 : ∀ d, d < 2 → a3 d = 0) (hx : x < 64)
    (H : ∀ (n t k : Int32) (b4 b5 b6 b7 b8 : Nat → Int32) (C : Nat → Nat), dd_tab V W C → (∀ j, j < 64 → b5 j = nI (C j)) → post (nI (C x)) (2, nI 3, n, 1, t, k, fp, fr, a1, a2, a3, b4, b5, b6, b7, b8, a9, a10, a11, a12, a13, a14)) :
    wpX_closure post (2, fm, fb, 0, ft, fk, fp, fr, a1, a2, a3, a4, a5, a6, a7, a8, a9, a10, a11, a12, a13, a14) (nI x) := by
  unfold wpX_closure
  refine dd_bad hx ?_
  refine br_t rfl ?_
  refine dd_st hV hW h3 (fun n t k b4 b5 b6 b7 b8 C hC h5 => ⟨pk_in x 64 hx, ?_⟩)
  rw [nI_clamp (by omega), h5 x hx]
  exact H n t k b4 b5 b6 b7 b8 C hC h5
theorem dd_fo {post : Int32 → St2 → Prop} {x y : Nat} {C : Nat → Nat} (h5 : ∀ j, j < 64 → C j < 64 ∧ a5 j = nI (C j)) (hx : x < 64) (hy : y < 64)
    (H1 : dd_sb y (C x) → post 1 (fc, fm, fb, 1, ft, fk, fp, fr, a1, a2, a3, a4, a5, a6, a7, a8, a9, a10, a11, a12, a13, a14)) (H0 : ¬ dd_sb y (C x) → post 0 (fc, fm, fb, 1, ft, fk, fp, fr, a1, a2, a3, a4, a5, a6, a7, a8, a9, a10, a11, a12, a13, a14)) : wpX_follows post (fc, fm, fb, 1, ft, fk, fp, fr, a1, a2, a3, a4, a5, a6, a7, a8, a9, a10, a11, a12, a13, a14) (nI x) (nI y) := by
  unfold wpX_follows
  refine dd_bad hx ?_
  refine br_t rfl ?_
  refine dd_bad hy ?_
  refine br_t rfl ?_
  refine br_f dd_10 ?_
  refine ⟨pk_in x 64 hx, ?_⟩
  rw [nI_clamp (by omega), (h5 x hx).2]
  exact dd_wI hy (h5 x hx).1 (fun q => ⟨dd_n1, H1 q⟩) (fun q => ⟨dd_n0, H0 q⟩)
/-- bits below c -/
def dd_bc (x : Nat) : Nat → Nat
  | 0 => 0
  | c + 1 => dd_bc x c + x / 2 ^ c % 2
theorem dd_b10 : ∀ x, x < 4 → ∀ c, c < 10 → (nI x >>> (nI c &&& 31)) &&& 1 = nI (x / 2 ^ c % 2) := by decide +kernel
theorem dd_bO {post : Int32 → Prop} {x : Nat} (hx : x < 4) (H : post (nI (dd_bc x 10))) : wpX_bitsOf post (fc, fm, fb, fs, ft, fk, fp, fr, a1, a2, a3, a4, a5, a6, a7, a8, a9, a10, a11, a12, a13, a14) (nI x) :=
  pk_loop (σ := Unit) (fun N i _ => wX_bitsOf_4 post (nI x) fc fm fb fs ft fk fp fr a1 a2 a3 a4 a5 a6 a7 a8 a9 a10 a11 a12 a13 a14 N (nI (dd_bc x i)) (nI i)) (fun _ _ => True) 10 0 () (by omega) trivial
    (fun N _ _ => pk_le 10 10 (fun _ => H) (fun z => absurd z (by omega)))
    (fun N i _ hi _ hw => pk_le 10 i (fun z => absurd z (by omega)) (fun _ => nm_r (by rw [dd_b10 x hx i hi, nI_add]; rfl) (nm_r (nI_1 i) (hw () trivial))))
/-- y follows from x by the dependencies of i -/
def dd_q (V W : Nat → Nat) (x y i : Nat) : Prop := ∃ y', dd_is V W i x y' ∧ dd_sb y y'
/-- the least number found, before turn i -/
def dd_bs (V W : Nat → Nat) (x y : Nat) : Nat → Nat → Prop
  | 0 => fun b => b = 11
  | i + 1 => fun b => ∃ b', dd_bs V W x y i b' ∧ ((dd_bc i 10 < b' ∧ dd_q V W x y i ∧ b = dd_bc i 10) ∨ (¬ (dd_bc i 10 < b' ∧ dd_q V W x y i) ∧ b = b'))
theorem dd_bc4 : ∀ i, i < 4 → dd_bc i 10 < 12 := by decide
theorem dd_nd51 {post : Int32 → St2 → Prop} {V W : Nat → Nat} {x y : Nat} (hV : ∀ d, d < 2 → V d < 64 ∧ a1 d = nI (V d)) (hW : ∀ d, d < 2 → W d < 64 ∧ a2 d = nI (W d)) (h3 : ∀ d, d < 2 → a3 d = 0) (hx : x < 64) (hy : y < 64)
    (H : ∀ (b : Nat) (m n : Int32) (b4 : Nat → Int32), dd_bs V W x y 4 b → post (nI b) (2, m, n, fs, ft, fk, fp, fr, a1, a2, a3, b4, a5, a6, a7, a8, a9, a10, a11, a12, a13, a14)) :
    ∃ fu, wX_needs_51 post (nI x) (nI y) fu 11 0 2 fm fb fs ft fk fp fr a1 a2 a3 a4 a5 a6 a7 a8 a9 a10 a11 a12 a13 a14 := by
  refine pk_loop (σ := Nat × Int32 × Int32 × (Nat → Int32)) (fun N i s => wX_needs_51 post (nI x) (nI y) N (nI s.1) (nI i) 2 s.2.1 s.2.2.1 fs ft fk fp fr a1 a2 a3 s.2.2.2 a5 a6 a7 a8 a9 a10 a11 a12 a13 a14)
    (fun i s => s.1 < 12 ∧ dd_bs V W x y i s.1) 4 0 (11, fm, fb, a4) (by omega) ⟨(by decide : 11 < 12), rfl⟩ ?_ ?_
  · intro N s h
    exact pk_le 4 4 (fun _ => H _ _ _ _ h.2) (fun z => absurd z (by omega)) (by decide)
  · intro N i s hi h hw
    obtain ⟨b, m, n, b4⟩ := s
    obtain ⟨hp1, hp2⟩ := h
    have h1 : b < 12 := hp1
    have h2 : dd_bs V W x y i b := hp2
    clear hp1 hp2
    have hbc := dd_bc4 i hi
    refine pk_le 4 i (fun z => absurd z (by omega)) (fun _ => dd_bO hi ?_) (by decide)
    refine pk_le b (dd_bc i 10) (fun z => nm_r (nI_1 i) (hw (b, m, n, b4) ⟨h1, b, h2, Or.inr ⟨fun g => absurd g.1 (by omega), rfl⟩⟩)) (fun z => ?_)
    refine dd_cS_2 hV hW h3 (by omega) hx (fun y' n' bl hy' => dd_wI hy hy'.1 (fun q => ?_) (fun q => ?_))
    · exact br_f dd_10 (nm_r (nI_1 i) (hw (dd_bc i 10, nI i, n', bl) ⟨hbc, b, h2, Or.inl ⟨z, ⟨y', hy', q⟩, rfl⟩⟩))
    · refine br_t rfl (nm_r (nI_1 i) (hw (b, nI i, n', bl) ⟨h1, b, h2, Or.inr ⟨fun g => ?_, rfl⟩⟩))
      obtain ⟨_, y2, hy2, q2⟩ := g
      rw [dd_isU hy2 hy'] at q2
      exact q q2
theorem dd_nd {post : Int32 → St2 → Prop} {V W C : Nat → Nat} {x y : Nat} (hV : ∀ d, d < 2 → V d < 64 ∧ a1 d = nI (V d)) (hW : ∀ d, d < 2 → W d < 64 ∧ a2 d = nI (W d)) (h3 : ∀ d, d < 2 → a3 d = 0) (h5 : ∀ j, j < 64 → C j < 64 ∧ a5 j = nI (C j)) (hx : x < 64) (hy : y < 64)
    (H0 : ¬ dd_sb y (C x) → post (-3) (2, fm, fb, 1, ft, fk, fp, fr, a1, a2, a3, a4, a5, a6, a7, a8, a9, a10, a11, a12, a13, a14))
    (H1 : dd_sb y (C x) → ∀ (b : Nat) (m n : Int32) (b4 : Nat → Int32), dd_bs V W x y 4 b → post (nI b) (2, m, n, 1, ft, fk, fp, fr, a1, a2, a3, b4, a5, a6, a7, a8, a9, a10, a11, a12, a13, a14)) :
    wpX_needs post (2, fm, fb, 1, ft, fk, fp, fr, a1, a2, a3, a4, a5, a6, a7, a8, a9, a10, a11, a12, a13, a14) (nI x) (nI y) := by
  unfold wpX_needs
  refine dd_bad hx ?_
  refine br_t rfl ?_
  refine dd_bad hy ?_
  refine br_t rfl ?_
  refine br_t rfl ?_
  exact dd_fo h5 hx hy (fun q => br_f dd_10 (dd_nd51 hV hW h3 hx hy (H1 q))) (fun q => br_t rfl (H0 q))
end
end
section
section
variable {fc fm fb fs ft fk fp fr : Int32} {a1 a2 a3 a4 a5 a6 a7 a8 a9 a10 a11 a12 a13 a14 : Nat → Int32}
theorem dd_sgI : ∀ i, i < 2 → nI (2 ^ i - 1) ||| ((1 : Int32) <<< (nI i &&& 31)) = nI (2 ^ (i + 1) - 1) := by decide +kernel
theorem dd_sg {post : Int32 → Prop} (h3 : ∀ d, d < 2 → a3 d = 0) (H : post (nI 3)) : wpX_singleGiven post (2, fm, fb, fs, ft, fk, fp, fr, a1, a2, a3, a4, a5, a6, a7, a8, a9, a10, a11, a12, a13, a14) :=
  pk_loop (σ := Unit) (fun N i _ => wX_singleGiven_4 post 2 fm fb fs ft fk fp fr a1 a2 a3 a4 a5 a6 a7 a8 a9 a10 a11 a12 a13 a14 N (nI (2 ^ i - 1)) (nI i)) (fun _ _ => True) 2 0 () (by omega) trivial
    (fun N _ _ => pk_le 2 2 (fun _ => H) (fun z => absurd z (by omega)))
    (fun N i _ hi _ hw => pk_le 2 i (fun z => absurd z (by omega)) (fun _ => ⟨pk_in i 10 (by omega), br_t (by rw [nI_clamp (by omega)]; exact h3 i hi) (nm_r (dd_sgI i hi) (nm_r (nI_1 i) (hw () trivial)))⟩))
/-- part d holds the dependency d, and x its left -/
def dd_gd (V W P : Nat → Nat) (m x d : Nat) : Prop := d < 2 ∧ m.testBit d = true ∧ dd_sb (V d) x ∧ dd_sb (V d) (P d) ∧ dd_sb (W d) (P d)
theorem dd_cP24 {post : Int32 → St2 → Prop} {J7 : Int32 → Int32 → Int32 → Int32 → Int32 → Int32 → Int32 → Int32 → Int32 → Int32 → Int32 → (Nat → Int32) → (Nat → Int32) → (Nat → Int32) → (Nat → Int32) → (Nat → Int32) → (Nat → Int32) → (Nat → Int32) → (Nat → Int32) → (Nat → Int32) → (Nat → Int32) → (Nat → Int32) → (Nat → Int32) → (Nat → Int32) → (Nat → Int32) → Prop} {x4 x5 : Int32} {V W P : Nat → Nat} {m x p o : Nat} (hV : ∀ d, d < 2 → V d < 64 ∧ a1 d = nI (V d)) (hW : ∀ d, d < 2 → W d < 64 ∧ a2 d = nI (W d)) (h3 : ∀ d, d < 2 → a3 d = 0) (hm : m < 64) (hp : p ≤ 4) (h9 : ∀ k, k < p → P k < 64 ∧ a9 k = nI (P k)) (ho : o < 64) (hxo : dd_sb x o)
    (HJ : ∀ (r : Int32) (o' : Nat) (n : Int32) (bl : Nat → Int32), o' < 64 → dd_sb o o' → (p = 0 → o' = o) → (∀ d, d < p → dd_gd V W P m x d → dd_sb (W d) o') → J7 (nI o') r (x4 + 1) 2 (nI m) n fs ft fk (nI p) fr a1 a2 a3 bl a5 a6 a7 a8 a9 a10 a11 a12 a13 a14) :
    ∃ fu, wX_closedInParts_24 post J7 x4 x5 fu (nI o) 0 2 (nI m) fb fs ft fk (nI p) fr a1 a2 a3 a4 a5 a6 a7 a8 a9 a10 a11 a12 a13 a14 := by
  refine pk_loop (σ := Nat × Int32 × (Nat → Int32)) (fun N k s => wX_closedInParts_24 post J7 x4 x5 N (nI s.1) (nI k) 2 (nI m) s.2.1 fs ft fk (nI p) fr a1 a2 a3 s.2.2 a5 a6 a7 a8 a9 a10 a11 a12 a13 a14)
    (fun k s => s.1 < 64 ∧ dd_sb o s.1 ∧ (p = 0 → s.1 = o) ∧ ∀ d, d < k → dd_gd V W P m x d → dd_sb (W d) s.1) p 0 (o, fb, a4) (Nat.zero_le _) ⟨ho, dd_sbR o, fun _ => rfl, fun d hd => absurd hd (by omega)⟩ ?_ ?_
  · intro N s h
    obtain ⟨h1, h2, h4, h5⟩ := h
    exact pk_le p p (fun _ => br_c (fun _ => nm_e (HJ 0 s.1 s.2.1 s.2.2 h1 h2 h4 h5)) (fun _ => nm_e (HJ 1 s.1 s.2.1 s.2.2 h1 h2 h4 h5))) (fun z => absurd z (by omega))
  · intro N k s hk h hw
    obtain ⟨o1, n, bl⟩ := s
    obtain ⟨q1, q2, q4, q5⟩ := h
    have h1 : o1 < 64 := q1
    have h2 : dd_sb o o1 := q2
    have h5 : ∀ d, d < k → dd_gd V W P m x d → dd_sb (W d) o1 := q5
    clear q1 q2 q4 q5
    have e : (nI k).toNatClampNeg = k := nI_clamp (by omega)
    obtain ⟨hP, e9⟩ := h9 k hk
    refine pk_le p k (fun z => absurd z (by omega)) (fun _ => ⟨pk_in k 4 (by omega), ?_⟩)
    rw [e, e9]
    show wpX_closeSet_2 _ (2, nI m, n, fs, ft, fk, nI p, fr, a1, a2, a3, bl, a5, a6, a7, a8, a9, a10, a11, a12, a13, a14) (nI o1 &&& nI (P k))
    rw [dd_and]
    refine dd_cS_2 hV hW h3 hm (dd_andL _ h1) (fun y n' bl' hy => ⟨pk_in k 4 (by omega), ?_⟩)
    rw [e9, dd_and]
    show ∀ x2_60, x2_60 = nI o1 ||| nI (y &&& P k) → _
    rw [dd_or]
    refine nm_e (nm_r (nI_1 k) (hw (o1 ||| (y &&& P k), n', bl') ⟨dd_orL h1 (dd_andL _ hy.1), dd_sbT h2 (dd_orSl _ _), fun z => absurd z (by omega), fun d hd hg => ?_⟩))
    by_cases g : d = k
    · subst g
      obtain ⟨g1, g2, g3, g4, g5⟩ := hg
      have hv : dd_sb (V d) (o1 &&& P d) := fun c hc hb => by
        rw [Nat.testBit_and, dd_sbT g3 (dd_sbT hxo h2) c hc hb, g4 c hc hb]; rfl
      have hw' := hy.2.2.1 d g1 g2 (dd_sbT hv hy.2.1)
      refine dd_sbT (fun c hc hb => ?_) (dd_orSr o1 (y &&& P d))
      rw [Nat.testBit_and, hw' c hc hb, g5 c hc hb]; rfl
    · exact dd_sbT (h5 d (by omega) hg) (dd_orSl _ _)
/-- what a set gives within parts: at least what its own part gives; without parts, itself -/
theorem dd_cP {post : Int32 → St2 → Prop} {V W P : Nat → Nat} {m x p : Nat} (hV : ∀ d, d < 2 → V d < 64 ∧ a1 d = nI (V d)) (hW : ∀ d, d < 2 → W d < 64 ∧ a2 d = nI (W d)) (h3 : ∀ d, d < 2 → a3 d = 0) (hm : m < 64) (hp : p ≤ 4) (h9 : ∀ k, k < p → P k < 64 ∧ a9 k = nI (P k)) (hx : x < 64)
    (H : ∀ (o : Nat) (n : Int32) (bl : Nat → Int32), o < 64 → (p = 0 → o = x) → (∀ d, d < p → dd_gd V W P m x d → dd_sb (W d) o) → post (nI o) (2, nI m, n, fs, ft, fk, nI p, fr, a1, a2, a3, bl, a5, a6, a7, a8, a9, a10, a11, a12, a13, a14)) :
    wpX_closedInParts post (2, nI m, fb, fs, ft, fk, nI p, fr, a1, a2, a3, a4, a5, a6, a7, a8, a9, a10, a11, a12, a13, a14) (nI x) := by
  refine pk_loop (σ := Nat × Int32 × Int32 × (Nat → Int32)) (fun N i s => wX_closedInParts_7 post N (nI s.1) s.2.1 (nI i) 2 (nI m) s.2.2.1 fs ft fk (nI p) fr a1 a2 a3 s.2.2.2 a5 a6 a7 a8 a9 a10 a11 a12 a13 a14)
    (fun i s => s.1 < 64 ∧ dd_sb x s.1 ∧ (p = 0 → s.1 = x) ∧ ((i = 0 ∧ s.2.1 = 1) ∨ (0 < i ∧ ∀ d, d < p → dd_gd V W P m x d → dd_sb (W d) s.1))) 7 0 (x, 1, fb, a4) (by omega) ⟨hx, dd_sbR x, fun _ => rfl, Or.inl ⟨rfl, rfl⟩⟩ ?_ ?_
  · intro N s h
    obtain ⟨h1, h2, h4, h5⟩ := h
    rcases h5 with h5 | h5
    · exact absurd h5.1 (by omega)
    · exact pk_le 7 7 (fun _ => H s.1 s.2.2.1 s.2.2.2 h1 h4 h5.2) (fun z => absurd z (by omega))
  · intro N i s hi h hw
    obtain ⟨o, r, n, bl⟩ := s
    obtain ⟨q1, q2, q4, h5⟩ := h
    have h1 : o < 64 := q1
    have h2 : dd_sb x o := q2
    have h4 : p = 0 → o = x := q4
    clear q1 q2 q4
    refine pk_le 7 i (fun z => absurd z (by omega)) (fun _ => ?_)
    have hN : ∃ fu, wX_closedInParts_24 post (wX_closedInParts_7 post N) (nI i) (nI o) fu (nI o) 0 2 (nI m) n fs ft fk (nI p) fr a1 a2 a3 bl a5 a6 a7 a8 a9 a10 a11 a12 a13 a14 := by
      refine dd_cP24 hV hW h3 hm hp h9 h1 h2 (fun r' o' n' bl' k1 k2 k3 k4 => ?_)
      rw [nI_1 i]
      exact hw (o', r', n', bl') ⟨k1, dd_sbT h2 k2, fun z => (k3 z).trans (h4 z), Or.inr ⟨by omega, k4⟩⟩
    rcases h5 with ⟨_, h5⟩ | ⟨_, h5⟩
    · have h5 : r = 1 := h5
      subst h5
      exact br_f dd_10 hN
    · exact br_c (fun _ => H o n bl h1 h4 h5) (fun _ => hN)
theorem dd_pr {post : Int32 → St2 → Prop} {V W P : Nat → Nat} {p : Nat} {OK : Nat → Prop} (hV : ∀ d, d < 2 → V d < 64 ∧ a1 d = nI (V d)) (hW : ∀ d, d < 2 → W d < 64 ∧ a2 d = nI (W d)) (h3 : ∀ d, d < 2 → a3 d = 0) (hp : p ≤ 4) (h9 : ∀ k, k < p → P k < 64 ∧ a9 k = nI (P k))
    (hOK : ∀ d o, d < 2 → (p = 0 → o = V d) → (∀ e, e < p → dd_gd V W P 3 (V d) e → dd_sb (W e) o) → (dd_sb (W d) o ↔ OK d))
    (H1 : (∀ d, d < 2 → OK d) → ∀ (n : Int32) (bl : Nat → Int32), post 1 (2, nI 3, n, fs, ft, fk, nI p, fr, a1, a2, a3, bl, a5, a6, a7, a8, a9, a10, a11, a12, a13, a14))
    (H0 : ¬ (∀ d, d < 2 → OK d) → ∀ (n : Int32) (bl : Nat → Int32), post 0 (2, nI 3, n, fs, ft, fk, nI p, fr, a1, a2, a3, bl, a5, a6, a7, a8, a9, a10, a11, a12, a13, a14)) :
    wpX_preserves post (2, fm, fb, fs, ft, fk, nI p, fr, a1, a2, a3, a4, a5, a6, a7, a8, a9, a10, a11, a12, a13, a14) := by
  unfold wpX_preserves
  refine dd_sg h3 ?_
  refine pk_loop (σ := Int32 × Int32 × (Nat → Int32)) (fun N i s => wX_preserves_12 post N s.1 (nI i) 2 (nI 3) s.2.1 fs ft fk (nI p) fr a1 a2 a3 s.2.2 a5 a6 a7 a8 a9 a10 a11 a12 a13 a14)
    (fun i s => (s.1 = 1 ∧ ∀ d, d < i → OK d) ∨ (s.1 = 0 ∧ ¬ ∀ d, d < 2 → OK d)) 2 0 (1, fb, a4) (by omega) (Or.inl ⟨rfl, fun d hd => absurd hd (by omega)⟩) ?_ ?_
  · intro N s h
    obtain ⟨r, n, bl⟩ := s
    rcases h with ⟨h1, h2⟩ | ⟨h1, h2⟩
    · have h1 : r = 1 := h1
      subst h1
      exact pk_le 2 2 (fun _ => ⟨dd_n1, H1 h2 n bl⟩) (fun z => absurd z (by omega))
    · have h1 : r = 0 := h1
      subst h1
      exact pk_le 2 2 (fun _ => ⟨dd_n0, H0 h2 n bl⟩) (fun z => absurd z (by omega))
  · intro N i s hi h hw
    obtain ⟨r, n, bl⟩ := s
    have e : (nI i).toNatClampNeg = i := nI_clamp (by omega)
    refine pk_le 2 i (fun z => absurd z (by omega)) (fun _ => ⟨pk_in i 10 (by omega), br_t (by rw [e]; exact h3 i hi) ⟨pk_in i 10 (by omega), ?_⟩⟩)
    rw [e, (hV i hi).2]
    refine dd_cP hV hW h3 (by omega) hp h9 (hV i hi).1 (fun o n' bl' ho k1 k2 => ?_)
    have hok := hOK i o hi k1 k2
    rcases h with ⟨h1, h2⟩ | ⟨h1, h2⟩
    · have h1 : r = 1 := h1
      subst h1
      refine br_f dd_10 ⟨pk_in i 10 (by omega), ?_⟩
      rw [(hW i hi).2]
      refine dd_wI (hW i hi).1 ho (fun q => ?_) (fun q => ?_)
      · exact br_f dd_10 (nm_r (nI_1 i) (hw (1, n', bl') (Or.inl ⟨rfl, lt_s h2 (hok.mp q)⟩)))
      · exact br_t rfl (nm_r (nI_1 i) (hw (0, n', bl') (Or.inr ⟨rfl, fun g => q (hok.mpr (g i hi))⟩)))
    · have h1 : r = 0 := h1
      subst h1
      exact br_t rfl (nm_r (nI_1 i) (hw (0, n', bl') (Or.inr ⟨rfl, h2⟩)))
theorem dd_pa {post : Int32 → St2 → Prop} {p x : Nat} (hp : p < 4) (hx : x < 64) (H : post (nI (p + 1)) (fc, fm, fb, fs, ft, fk, nI (p + 1), fr, a1, a2, a3, a4, a5, a6, a7, a8, upd a9 p (nI x), a10, a11, a12, a13, a14)) : wpX_part post (fc, fm, fb, fs, ft, fk, nI p, fr, a1, a2, a3, a4, a5, a6, a7, a8, a9, a10, a11, a12, a13, a14) (nI x) := by
  unfold wpX_part
  refine dd_bad hx ?_
  refine br_t rfl ?_
  refine pk_eq p 4 (fun z => absurd z (by omega)) (fun _ => ⟨pk_in p 4 hp, ?_⟩)
  rw [nI_clamp (by omega)]
  exact nm_e (nm_r (nI_1 p) H)
theorem dd_jA {post : Int32 → St2 → Prop} (h3 : ∀ d, d < 2 → a3 d = 0) (H : post 0 (2, fm, fb, fs, ft, fk, nI 1, fr, a1, a2, a3, a4, a5, a6, a7, a8, a9, a10, a11, a12, a13, a14)) : wpX_joinAll post (2, fm, fb, fs, ft, fk, nI 1, fr, a1, a2, a3, a4, a5, a6, a7, a8, a9, a10, a11, a12, a13, a14) := by
  refine pk_loop (σ := Unit) (fun N i _ => wX_joinAll_4 post N 0 (nI i) 2 fm fb fs ft fk (nI 1) fr a1 a2 a3 a4 a5 a6 a7 a8 a9 a10 a11 a12 a13 a14) (fun _ _ => True) 2 0 () (by omega) trivial ?_ ?_
  · intro N _ _
    exact pk_le 2 2 (fun _ => ⟨dd_n0, H⟩) (fun z => absurd z (by omega))
  · intro N d _ hd _ hw
    refine pk_le 2 d (fun z => absurd z (by omega)) (fun _ => ?_)
    refine pk_loop (σ := Unit) (fun M k _ => wX_joinAll_14 post (wX_joinAll_4 post N) (nI d) M 0 (nI k) 2 fm fb fs ft fk (nI 1) fr a1 a2 a3 a4 a5 a6 a7 a8 a9 a10 a11 a12 a13 a14) (fun _ _ => True) 16 0 () (by omega) trivial ?_ ?_
    · intro M _ _
      exact pk_le 16 16 (fun _ => nm_r (nI_1 d) (hw () trivial)) (fun z => absurd z (by omega))
    · intro M k _ hk _ hw2
      have hn := hw2 () trivial
      refine pk_le 16 k (fun z => absurd z (by omega)) (fun _ => ⟨pk_in d 10 (by omega), br_t (by rw [nI_clamp (by omega)]; exact h3 d hd) ⟨by decide, nm_r (pk_div (a := k) (d := 4) (by omega) (by omega) (by omega)) ⟨by decide, nm_r (pk_rem (a := k) (d := 4) (by omega) (by omega) (by omega)) ?_⟩⟩⟩)
      refine pk_le (k % 4) (k / 4) (fun _ => ?_) (fun z => pk_le 1 (k % 4) (fun _ => ?_) (fun z' => absurd z (by omega)))
      · exact br_t rfl (br_t rfl (nm_r (nI_1 k) hn))
      · exact br_t rfl (br_t rfl (nm_r (nI_1 k) hn))
theorem dd_60 : ∀ c, c < 6 → (6 : Int32) * 0 + nI c = nI c := by decide +kernel
theorem dd_ls {post : Int32 → St2 → Prop} {P : Nat} (h3 : ∀ d, d < 2 → a3 d = 0) (hP : P < 64) (h9 : a9 0 = nI P)
    (H1 : P = 63 → ∀ b10 : Nat → Int32, post 1 (2, fm, fb, fs, ft, fk, nI 1, fr, a1, a2, a3, a4, a5, a6, a7, a8, a9, b10, a11, a12, a13, a14)) (H0 : P ≠ 63 → ∀ b10 : Nat → Int32, post 0 (2, fm, fb, fs, ft, fk, nI 1, fr, a1, a2, a3, a4, a5, a6, a7, a8, a9, b10, a11, a12, a13, a14)) :
    wpX_lossless post (2, fm, fb, fs, ft, fk, nI 1, fr, a1, a2, a3, a4, a5, a6, a7, a8, a9, a10, a11, a12, a13, a14) := by
  refine br_f (by decide) ⟨2, ?_⟩
  refine br_f (by decide) ?_
  refine pk_loop (fun N c (b10 : Nat → Int32) => wX_lossless_21 post (wX_lossless_11 post 2 fm fb fs ft fk (nI 1) fr 1) 0 2 fm fb fs ft fk (nI 1) fr N (nI c) a1 a2 a3 a4 a5 a6 a7 a8 a9 b10 a11 a12 a13 a14) (fun c b10 => ∀ e, e < c → (b10 e = 0 ↔ P.testBit e = true)) 6 0 a10 (by omega) (fun e he => absurd he (by omega)) ?_ ?_
  · intro N b10 h
    have hP63 : (∀ e, e < 6 → b10 e = 0) ↔ P = 63 := by
      constructor
      · intro g
        exact dd_ext hP (by omega) (fun c hc => by rw [dd_63b c hc]; exact (h c hc).mp (g c hc))
      · intro g e he
        exact (h e he).mpr (by rw [g]; exact dd_63b e he)
    refine pk_le 6 6 (fun _ => nm_e ?_) (fun z => absurd z (by omega))
    refine br_t (by decide) ⟨2, ?_⟩
    refine br_f (by decide) (br_f dd_10 ?_)
    refine dd_jA h3 ?_
    refine nm_e ?_
    refine br_f (by decide) (br_t rfl ⟨2, ?_⟩)
    refine br_f (by decide) ?_
    refine pk_loop (fun M c (s : Int32) => wX_lossless_114 post (wX_lossless_100 post 2 fm fb fs ft fk (nI 1) fr a1 a2 a3 a4 a5 a6 a7 a8 a9 b10 a11 a12 a13 a14 1) 0 0 2 fm fb fs ft fk (nI 1) fr a1 a2 a3 a4 a5 a6 a7 a8 a9 b10 a11 a12 a13 a14 M s (nI c)) (fun c s => (s = 1 ∧ ∀ e, e < c → b10 e = 0) ∨ (s = 0 ∧ ¬ ∀ e, e < 6 → b10 e = 0)) 6 0 1 (by omega) (Or.inl ⟨rfl, fun e he => absurd he (by omega)⟩) ?_ ?_
    · intro M s g
      rcases g with ⟨es, g⟩ | ⟨es, g⟩
      · subst es
        exact pk_le 6 6 (fun _ => br_t rfl (br_f dd_10 (nm_e (br_t (by decide) ⟨dd_n1, H1 (hP63.mp g) b10⟩)))) (fun z => absurd z (by omega))
      · subst es
        exact pk_le 6 6 (fun _ => br_t rfl (br_t rfl (nm_e (br_t (by decide) ⟨dd_n0, H0 (fun q => g (hP63.mpr q)) b10⟩)))) (fun z => absurd z (by omega))
    · intro M c s hc g hw
      have e : ((6 : Int32) * 0 + nI c).toNatClampNeg = c := by rw [dd_60 c hc]; exact nI_clamp (by omega)
      refine pk_le 6 c (fun z => absurd z (by omega)) (fun _ => ?_)
      rcases g with ⟨es, g⟩ | ⟨es, g⟩
      · subst es
        refine br_f dd_10 ⟨pk_in c 24 (by omega) (dd_60 c hc), ?_⟩
        rw [e]
        exact br_c (fun z => nm_r (nI_1 c) (hw 1 (Or.inl ⟨rfl, lt_s g z⟩))) (fun z => nm_r (nI_1 c) (hw 0 (Or.inr ⟨rfl, fun q => z (q c hc)⟩)))
      · subst es
        exact br_t rfl (nm_r (nI_1 c) (hw 0 (Or.inr ⟨rfl, g⟩)))
  · intro N c b10 hc h hw
    have e : ((6 : Int32) * 0 + nI c).toNatClampNeg = c := by rw [dd_60 c hc]; exact nI_clamp (by omega)
    refine pk_le 6 c (fun z => absurd z (by omega)) (fun _ => ⟨pk_in 0 4 (by omega), ?_⟩)
    refine dd_b1 P c (by rw [sb_cl0, h9]) hP hc (fun z => ⟨pk_in c 24 (by omega) (dd_60 c hc), nm_e (nm_r (nI_1 c) (hw _ ?_))⟩) (fun z => ⟨pk_in c 24 (by omega) (dd_60 c hc), nm_e (nm_r (nI_1 c) (hw _ ?_))⟩)
    · intro f hf
      rw [e]
      by_cases g : f = c
      · rw [g, pk_us, z]
        exact ⟨fun _ => rfl, fun _ => rfl⟩
      · rw [pk_un g]
        exact h f (by omega)
    · intro f hf
      rw [e]
      by_cases g : f = c
      · rw [g, pk_us, z]
        exact ⟨fun q => absurd q (by decide), fun q => absurd q (by decide)⟩
      · rw [pk_un g]
        exact h f (by omega)
theorem dd_gv {post : Int32 → St2 → Prop} {k x y : Nat} (hk : k < 10) (hx : x < 64) (hy : y < 64) (H : ∀ r : Int32, post r (nI (k + 1), fm, fb, 0, ft, fk, fp, fr, upd a1 k (nI x), upd a2 k (nI y), upd a3 k 0, a4, a5, a6, a7, a8, a9, a10, a11, a12, a13, a14)) : wpX_give post (nI k, fm, fb, fs, ft, fk, fp, fr, a1, a2, a3, a4, a5, a6, a7, a8, a9, a10, a11, a12, a13, a14) (nI x) (nI y) 0 := by
  unfold wpX_give
  refine dd_bad hx ?_
  refine br_t rfl ?_
  refine dd_bad hy ?_
  refine br_t rfl ?_
  refine pk_eq k 10 (fun z => absurd z (by omega)) (fun _ => ⟨pk_in k 10 hk, ?_⟩)
  rw [nI_clamp (by omega)]
  refine nm_e ⟨pk_in k 10 hk, nm_e (br_t rfl ⟨pk_in k 10 hk, ?_⟩)⟩
  rw [nI_clamp (by omega)]
  exact nm_e (nm_r (nI_1 k) (H _))
end
end
section
/-! ===== the plain law ===== -/
/-- T lies between x and its closure -/
def dd_bt (V W : Nat → Nat) (m x T : Nat) : Prop := T < 64 ∧ dd_sb x T ∧ ∀ T', dd_sb x T' → dd_cl V W m T' → dd_sb T T'
theorem dd_bt0 (V W : Nat → Nat) (m : Nat) {x : Nat} (hx : x < 64) : dd_bt V W m x x := ⟨hx, dd_sbR x, fun _ h _ => h⟩
theorem dd_btS {V W : Nat → Nat} {m x T : Nat} (h : dd_bt V W m x T) {d : Nat} (hd : d < 2) (hm : m.testBit d = true) (hw : W d < 64) (hv : dd_sb (V d) T) : dd_bt V W m x (T ||| W d) :=
  ⟨dd_orL h.1 hw, dd_sbT h.2.1 (dd_orSl _ _), fun T' h1 h2 => dd_orS (h.2.2 T' h1 h2) (h2 d hd hm (dd_sbT hv (h.2.2 T' h1 h2)))⟩
theorem dd_btI {V W : Nat → Nat} {m x T : Nat} (h : dd_bt V W m x T) (hc : dd_cl V W m T) : dd_is V W m x T := ⟨h.1, h.2.1, hc, h.2.2⟩
/-- one step of the law: T' is T, with w if v is within T -/
def dd_sp1 (v w T T' : Nat) : Prop := (dd_sb v T ∧ T' = T ||| w) ∨ (¬ dd_sb v T ∧ T' = T)
theorem dd_due {V W : Nat → Nat} (hW : ∀ d, d < 2 → W d < 64) {s F1 F2 F3 : Nat} (hs : s < 64) (h1 : dd_sp1 (V 0) (W 0) s F1) (h2 : dd_sp1 (V 1) (W 1) F1 F2) (h3 : dd_sp1 (V 0) (W 0) F2 F3) : dd_is V W 3 s F3 := by
  have b1 : dd_bt V W 3 s F1 := by
    rcases h1 with ⟨q, e⟩ | ⟨q, e⟩
    · rw [e]; exact dd_btS (dd_bt0 V W 3 hs) (by omega) (by decide) (hW 0 (by omega)) q
    · rw [e]; exact dd_bt0 V W 3 hs
  have b2 : dd_bt V W 3 s F2 := by
    rcases h2 with ⟨q, e⟩ | ⟨q, e⟩
    · rw [e]; exact dd_btS b1 (by omega) (by decide) (hW 1 (by omega)) q
    · rw [e]; exact b1
  have b3 : dd_bt V W 3 s F3 := by
    rcases h3 with ⟨q, e⟩ | ⟨q, e⟩
    · rw [e]; exact dd_btS b2 (by omega) (by decide) (hW 0 (by omega)) q
    · rw [e]; exact b2
  refine dd_btI b3 (dd_clI (fun g => ?_) (fun g => ?_) 3)
  · rcases h3 with ⟨q, e⟩ | ⟨q, e⟩
    · rw [e]; exact dd_orSr _ _
    · rw [e] at g; exact absurd g q
  · have s23 : dd_sb F2 F3 := by
      rcases h3 with ⟨q, e⟩ | ⟨q, e⟩
      · rw [e]; exact dd_orSl _ _
      · rw [e]; exact dd_sbR _
    rcases h2 with ⟨q, e⟩ | ⟨q, e⟩
    · exact dd_sbT (by rw [e]; exact dd_orSr _ _) s23
    · rcases h3 with ⟨q3, e3⟩ | ⟨q3, e3⟩
      · rcases h1 with ⟨q1, e1⟩ | ⟨q1, e1⟩
        · refine absurd (dd_sbT g ?_) q
          rw [e3, e]
          exact dd_orS (dd_sbR _) (by rw [e1]; exact dd_orSr _ _)
        · rw [e, e1] at q3
          exact absurd q3 q1
      · rw [e3, e] at g
        exact absurd g q
/-- the least number of dependencies -/
def dd_one (a b c d s o : Nat) : Prop := (dd_sb d s ∧ o = 0) ∨ (¬ dd_sb d s ∧ ((dd_sb a s ∧ dd_sb d (s ||| b)) ∨ dd_sb c s) ∧ o = 1) ∨ (¬ dd_sb d s ∧ ¬ ((dd_sb a s ∧ dd_sb d (s ||| b)) ∨ dd_sb c s) ∧ o = 2)
theorem dd_q0 {V W : Nat → Nat} {s y : Nat} (hs : s < 64) : dd_q V W s y 0 ↔ dd_sb y s := by
  have h : dd_is V W 0 s s := dd_btI (dd_bt0 V W 0 hs) (fun d _ hm => absurd hm (by rw [Nat.zero_testBit]; decide))
  constructor
  · rintro ⟨y', h', q⟩
    rw [dd_isU h' h] at q
    exact q
  · intro q
    exact ⟨s, h, q⟩
theorem dd_q1 {V W : Nat → Nat} (hW : ∀ d, d < 2 → W d < 64) {s y : Nat} (hs : s < 64) (hn : ¬ dd_sb y s) : dd_q V W s y 1 ↔ dd_sb (V 0) s ∧ dd_sb y (s ||| W 0) := by
  by_cases g : dd_sb (V 0) s
  · have h : dd_is V W 1 s (s ||| W 0) := dd_btI (dd_btS (dd_bt0 V W 1 hs) (by omega) (by decide) (hW 0 (by omega)) g) (fun d hd hm => by
      rcases d with _ | _ | d
      · exact fun _ => dd_orSr _ _
      · exact absurd hm (by decide)
      · omega)
    constructor
    · rintro ⟨y', h', q⟩
      rw [dd_isU h' h] at q
      exact ⟨g, q⟩
    · intro q
      exact ⟨_, h, q.2⟩
  · have h : dd_is V W 1 s s := dd_btI (dd_bt0 V W 1 hs) (fun d hd hm => by
      rcases d with _ | _ | d
      · exact fun q => absurd q g
      · exact absurd hm (by decide)
      · omega)
    constructor
    · rintro ⟨y', h', q⟩
      rw [dd_isU h' h] at q
      exact absurd q hn
    · intro q
      exact absurd q.1 g
theorem dd_q2 {V W : Nat → Nat} (hW : ∀ d, d < 2 → W d < 64) {s : Nat} (hs : s < 64) (hn : ¬ dd_sb (W 1) s) : dd_q V W s (W 1) 2 ↔ dd_sb (V 1) s := by
  by_cases g : dd_sb (V 1) s
  · have h : dd_is V W 2 s (s ||| W 1) := dd_btI (dd_btS (dd_bt0 V W 2 hs) (by omega) (by decide) (hW 1 (by omega)) g) (fun d hd hm => by
      rcases d with _ | _ | d
      · exact absurd hm (by decide)
      · exact fun _ => dd_orSr _ _
      · omega)
    exact ⟨fun _ => g, fun _ => ⟨_, h, dd_orSr _ _⟩⟩
  · have h : dd_is V W 2 s s := dd_btI (dd_bt0 V W 2 hs) (fun d hd hm => by
      rcases d with _ | _ | d
      · exact absurd hm (by decide)
      · exact fun q => absurd q g
      · omega)
    constructor
    · rintro ⟨y', h', q⟩
      rw [dd_isU h' h] at q
      exact absurd q hn
    · intro q
      exact absurd q g
theorem dd_bsO {V W : Nat → Nat} (hW : ∀ d, d < 2 → W d < 64) {s y b : Nat} (hs : s < 64) (hC : dd_is V W 3 s y) (hy : dd_sb (W 1) y) (h : dd_bs V W s (W 1) 4 b) : dd_one (V 0) (W 0) (V 1) (W 1) s b := by
  obtain ⟨b3, ⟨b2, ⟨b1, ⟨b0, h0, h1⟩, h2⟩, h3⟩, h4⟩ := h
  have h0 : b0 = 11 := h0
  have c0 : dd_bc 0 10 = 0 := by decide
  have c1 : dd_bc 1 10 = 1 := by decide
  have c2 : dd_bc 2 10 = 1 := by decide
  have c3 : dd_bc 3 10 = 2 := by decide
  have k3 : dd_q V W s (W 1) 3 := ⟨y, hC, hy⟩
  rw [c0, dd_q0 hs, h0] at h1
  rw [c1] at h2
  rw [c2] at h3
  rw [c3] at h4
  by_cases g : dd_sb (W 1) s
  · have e1 : b1 = 0 := by
      rcases h1 with h1 | h1
      · exact h1.2.2
      · exact absurd ⟨by omega, g⟩ h1.1
    have e2 : b2 = 0 := by
      rcases h2 with h2 | h2
      · exact absurd h2.1 (by omega)
      · rw [h2.2, e1]
    have e3 : b3 = 0 := by
      rcases h3 with h3 | h3
      · exact absurd h3.1 (by omega)
      · rw [h3.2, e2]
    refine Or.inl ⟨g, ?_⟩
    rcases h4 with h4 | h4
    · exact absurd h4.1 (by omega)
    · rw [h4.2, e3]
  · have e1 : b1 = 11 := by
      rcases h1 with h1 | h1
      · exact absurd h1.2.1 g
      · exact h1.2
    rw [dd_q1 hW hs g, e1] at h2
    rw [dd_q2 hW hs g] at h3
    by_cases g1 : dd_sb (V 0) s ∧ dd_sb (W 1) (s ||| W 0)
    · have e2 : b2 = 1 := by
        rcases h2 with h2 | h2
        · exact h2.2.2
        · exact absurd ⟨by omega, g1⟩ h2.1
      have e3 : b3 = 1 := by
        rcases h3 with h3 | h3
        · exact absurd h3.1 (by omega)
        · rw [h3.2, e2]
      refine Or.inr (Or.inl ⟨g, Or.inl g1, ?_⟩)
      rcases h4 with h4 | h4
      · exact absurd h4.1 (by omega)
      · rw [h4.2, e3]
    · have e2 : b2 = 11 := by
        rcases h2 with h2 | h2
        · exact absurd h2.2.1 g1
        · exact h2.2
      by_cases g2 : dd_sb (V 1) s
      · have e3 : b3 = 1 := by
          rcases h3 with h3 | h3
          · exact h3.2.2
          · exact absurd ⟨by omega, g2⟩ h3.1
        refine Or.inr (Or.inl ⟨g, Or.inr g2, ?_⟩)
        rcases h4 with h4 | h4
        · exact absurd h4.1 (by omega)
        · rw [h4.2, e3]
      · have e3 : b3 = 11 := by
          rcases h3 with h3 | h3
          · exact absurd h3.2.1 g2
          · rw [h3.2, e2]
        refine Or.inr (Or.inr ⟨g, fun q => ?_, ?_⟩)
        · rcases q with q | q
          · exact g1 q
          · exact g2 q
        · rcases h4 with h4 | h4
          · exact h4.2.2
          · exact absurd ⟨by omega, k3⟩ h4.1
/-! ===== the law's own checks ===== -/
theorem dd_T325 {post : Int32 → St0 → Prop} {mc ms kc ks : Nat} {a b : Nat} {x13 x14 z0 z1 : Int32} (ha : a < 64) (hb : b < 64) (e : z1 = z0) (e13 : (a ||| b = 63 ∧ x13 = 1) ∨ (a ||| b ≠ 63 ∧ x13 = 0)) (e14 : x14 = 1) (H : post 1 ()) : wL_lawOf_325 post mc ms (nI a) (nI b) x13 x14 z0 z1 kc ks := by
  have hL := dd_orL ha hb
  have n14 : ¬ x14 = 0 := by rw [e14]; decide
  refine br_t e ?_
  rw [dd_or]
  refine pk_eq (a ||| b) 63 (fun q => ?_) (fun q => ?_)
  · rcases e13 with ⟨_, g⟩ | ⟨g, _⟩
    · exact br_t g (br_f n14 H)
    · exact absurd q g
  · rcases e13 with ⟨g, _⟩ | ⟨_, g⟩
    · exact absurd g q
    · exact br_t g (br_f n14 H)
theorem dd_T295 {post : Int32 → St0 → Prop} {mc ms kc ks : Nat} {a b c d : Nat} {x12 x13 x14 z0 z1 : Int32} (ha : a < 64) (hb : b < 64) (hc : c < 64) (hd : d < 64) (e : z1 = z0) (e12 : ((dd_sb b a ∧ dd_sb d c) ∧ x12 = 1) ∨ (¬ (dd_sb b a ∧ dd_sb d c) ∧ x12 = 0)) (e13 : (a ||| b = 63 ∧ x13 = 1) ∨ (a ||| b ≠ 63 ∧ x13 = 0)) (e14 : x14 = 1) (H : post 1 ()) : wL_lawOf_295 post mc ms (nI a) (nI b) (nI c) (nI d) x12 x13 x14 z0 z1 kc ks := by
  refine br_t e (ek_if (dd_win hb ha) (fun q1 => ek_if (dd_win hd hc) (fun q2 => ?_) (fun q2 => ?_)) (fun q1 => ?_))
  · refine dd_T325 ha hb ?_ e13 e14 H
    rcases e12 with ⟨_, g⟩ | ⟨g, _⟩
    · exact g
    · exact absurd ⟨q1, q2⟩ g
  · refine dd_T325 ha hb ?_ e13 e14 H
    rcases e12 with ⟨g, _⟩ | ⟨_, g⟩
    · exact absurd g.2 q2
    · exact g
  · refine dd_T325 ha hb ?_ e13 e14 H
    rcases e12 with ⟨g, _⟩ | ⟨_, g⟩
    · exact absurd g.1 q1
    · exact g
theorem dd_T265 {post : Int32 → St0 → Prop} {mc ms kc ks : Nat} {a b c d : Nat} {x9 x10 x11 x12 x13 x14 x17 x18 z0 : Int32} (ha : a < 64) (hb : b < 64) (hc : c < 64) (hd : d < 64) (e9 : x9 = x17) (e10 : x10 = x18) (z11 : x18 = 0 → x11 = -3) (n11 : ¬ x18 = 0 → x11 = z0)
    (e12 : ((dd_sb b a ∧ dd_sb d c) ∧ x12 = 1) ∨ (¬ (dd_sb b a ∧ dd_sb d c) ∧ x12 = 0)) (e13 : (a ||| b = 63 ∧ x13 = 1) ∨ (a ||| b ≠ 63 ∧ x13 = 0)) (e14 : x14 = 1) (H : post 1 ()) : wL_lawOf_265 post mc ms (nI a) (nI b) (nI c) (nI d) x9 x10 x11 x12 x13 x14 x17 x18 z0 kc ks :=
  br_t e9 (br_t e10 (br_c (fun z => dd_T295 ha hb hc hd (z11 z) e12 e13 e14 H) (fun z => dd_T295 ha hb hc hd (n11 z) e12 e13 e14 H)))
theorem dd_T211 {post : Int32 → St0 → Prop} {mc ms kc ks : Nat} {a b c d s o : Nat} {x9 x10 x11 x12 x13 x14 x17 x18 : Int32} (ha : a < 64) (hb : b < 64) (hc : c < 64) (hd : d < 64) (hs : s < 64) (e9 : x9 = x17) (e10 : x10 = x18) (z11 : x18 = 0 → x11 = -3) (n11 : ¬ x18 = 0 → dd_one a b c d s o ∧ x11 = nI o)
    (e12 : ((dd_sb b a ∧ dd_sb d c) ∧ x12 = 1) ∨ (¬ (dd_sb b a ∧ dd_sb d c) ∧ x12 = 0)) (e13 : (a ||| b = 63 ∧ x13 = 1) ∨ (a ||| b ≠ 63 ∧ x13 = 0)) (e14 : x14 = 1) (H : post 1 ()) : wL_lawOf_211 post mc ms (nI a) (nI b) (nI c) (nI d) (nI s) x9 x10 x11 x12 x13 x14 x17 x18 kc ks := by
  have o0 : dd_sb d s → ¬ x18 = 0 → x11 = 0 := fun g z => by
    obtain ⟨h, e⟩ := n11 z
    rcases h with ⟨_, h⟩ | ⟨h, _⟩ | ⟨h, _⟩
    · rw [e, h]; rfl
    · exact absurd g h
    · exact absurd g h
  have o1 : ¬ dd_sb d s → ((dd_sb a s ∧ dd_sb d (s ||| b)) ∨ dd_sb c s) → ¬ x18 = 0 → x11 = 1 := fun g g' z => by
    obtain ⟨h, e⟩ := n11 z
    rcases h with ⟨h, _⟩ | ⟨_, _, h⟩ | ⟨_, h, _⟩
    · exact absurd h g
    · rw [e, h]; rfl
    · exact absurd g' h
  have o2 : ¬ dd_sb d s → ¬ ((dd_sb a s ∧ dd_sb d (s ||| b)) ∨ dd_sb c s) → ¬ x18 = 0 → x11 = 2 := fun g g' z => by
    obtain ⟨h, e⟩ := n11 z
    rcases h with ⟨h, _⟩ | ⟨_, h, _⟩ | ⟨_, _, h⟩
    · exact absurd h g
    · exact absurd h g'
    · rw [e, h]; rfl
  refine ek_if (dd_win hd hs) (fun g => dd_T265 ha hb hc hd e9 e10 z11 (o0 g) e12 e13 e14 H) (fun g => ?_)
  have h250 : ¬ (dd_sb a s ∧ dd_sb d (s ||| b)) → wL_lawOf_250 post mc ms (nI a) (nI b) (nI c) (nI d) (nI s) x9 x10 x11 x12 x13 x14 x17 x18 kc ks := fun q => by
    refine ek_if (dd_win hc hs) (fun g2 => ?_) (fun g2 => ?_)
    · exact dd_T265 ha hb hc hd e9 e10 z11 (o1 g (Or.inr g2)) e12 e13 e14 H
    · refine dd_T265 ha hb hc hd e9 e10 z11 (o2 g (fun t => ?_)) e12 e13 e14 H
      rcases t with t | t
      · exact q t
      · exact g2 t
  refine ek_if (dd_win ha hs) (fun g1 => ?_) (fun g1 => h250 (fun t => g1 t.1))
  rw [dd_or]
  refine ek_if (dd_win hd (dd_orL hs hb)) (fun g2 => ?_) (fun g2 => h250 (fun t => g2 t.2))
  exact dd_T265 ha hb hc hd e9 e10 z11 (o1 g (Or.inl ⟨g1, g2⟩)) e12 e13 e14 H
theorem dd_T150 {post : Int32 → St0 → Prop} {mc ms kc ks : Nat} {V W : Nat → Nat} {s y F1 : Nat} {x10 x11 x12 x13 x14 : Int32} (hV : ∀ d, d < 2 → V d < 64) (hW : ∀ d, d < 2 → W d < 64) (hs : s < 64) (hy : dd_is V W 3 s y) (h1 : dd_sp1 (V 0) (W 0) s F1)
    (e10 : (x10 = 1 ∧ dd_sb (W 1) y) ∨ (x10 = 0 ∧ ¬ dd_sb (W 1) y)) (z11 : ¬ dd_sb (W 1) y → x11 = -3) (n11 : dd_sb (W 1) y → ∃ b, dd_bs V W s (W 1) 4 b ∧ x11 = nI b)
    (e12 : ((dd_sb (W 0) (V 0) ∧ dd_sb (W 1) (V 1)) ∧ x12 = 1) ∨ (¬ (dd_sb (W 0) (V 0) ∧ dd_sb (W 1) (V 1)) ∧ x12 = 0)) (e13 : (V 0 ||| W 0 = 63 ∧ x13 = 1) ∨ (V 0 ||| W 0 ≠ 63 ∧ x13 = 0)) (e14 : x14 = 1) (H : post 1 ()) :
    wL_lawOf_150 post mc ms (nI (V 0)) (nI (W 0)) (nI (V 1)) (nI (W 1)) (nI s) (nI y) x10 x11 x12 x13 x14 (nI F1) kc ks := by
  have ha := hV 0 (by omega)
  have hc := hV 1 (by omega)
  have hb := hW 0 (by omega)
  have hd := hW 1 (by omega)
  have l1 : F1 < 64 := by
    rcases h1 with ⟨_, e⟩ | ⟨_, e⟩
    · rw [e]; exact dd_orL hs hb
    · rw [e]; exact hs
  have h194 : ∀ F2 F3, F2 < 64 → dd_sp1 (V 1) (W 1) F1 F2 → dd_sp1 (V 0) (W 0) F2 F3 → wL_lawOf_194 post mc ms (nI (V 0)) (nI (W 0)) (nI (V 1)) (nI (W 1)) (nI s) (nI y) x10 x11 x12 x13 x14 (nI F3) kc ks := by
    intro F2 F3 l2 h2 h3
    have hF := dd_due hW hs h1 h2 h3
    have ey := dd_isU hy hF
    subst ey
    have l3 := hF.1
    refine ek_if (dd_win hd l3) (fun q => ?_) (fun q => ?_)
    · obtain ⟨b, hb1, hb2⟩ := n11 q
      refine dd_T211 (o := b) ha hb hc hd hs rfl ?_ (fun z => absurd z (by decide)) (fun _ => ⟨dd_bsO hW hs hy q hb1, hb2⟩) e12 e13 e14 H
      rcases e10 with ⟨g, _⟩ | ⟨_, g⟩
      · exact g
      · exact absurd q g
    · refine dd_T211 (o := 0) ha hb hc hd hs rfl ?_ (fun _ => z11 q) (fun z => absurd rfl z) e12 e13 e14 H
      rcases e10 with ⟨_, g⟩ | ⟨g, _⟩
      · exact absurd g q
      · exact g
  have h172 : ∀ F2, F2 < 64 → dd_sp1 (V 1) (W 1) F1 F2 → wL_lawOf_172 post mc ms (nI (V 0)) (nI (W 0)) (nI (V 1)) (nI (W 1)) (nI s) (nI y) x10 x11 x12 x13 x14 (nI F2) kc ks := by
    intro F2 l2 h2
    refine ek_if (dd_win ha l2) (fun q => ?_) (fun q => h194 F2 F2 l2 h2 (Or.inr ⟨q, rfl⟩))
    rw [dd_or]
    exact h194 F2 _ l2 h2 (Or.inl ⟨q, rfl⟩)
  refine ek_if (dd_win hc l1) (fun q => ?_) (fun q => h172 F1 l1 (Or.inr ⟨q, rfl⟩))
  rw [dd_or]
  exact h172 _ (dd_orL l1 hd) (Or.inl ⟨q, rfl⟩)
end
section
section
variable {fc fm fb fs ft fk fp fr : Int32} {a1 a2 a3 a4 a5 a6 a7 a8 a9 a10 a11 a12 a13 a14 : Nat → Int32}
theorem dd_fo2 {post : Int32 → St2 → Prop} {x y : Nat} {C : Nat → Nat} (h5 : ∀ j, j < 64 → C j < 64 ∧ a5 j = nI (C j)) (hx : x < 64) (hy : y < 64)
    (H : ∀ r : Int32, ((r = 1 ∧ dd_sb y (C x)) ∨ (r = 0 ∧ ¬ dd_sb y (C x))) → post r (fc, fm, fb, 1, ft, fk, fp, fr, a1, a2, a3, a4, a5, a6, a7, a8, a9, a10, a11, a12, a13, a14)) : wpX_follows post (fc, fm, fb, 1, ft, fk, fp, fr, a1, a2, a3, a4, a5, a6, a7, a8, a9, a10, a11, a12, a13, a14) (nI x) (nI y) :=
  dd_fo h5 hx hy (fun q => H 1 (Or.inl ⟨rfl, q⟩)) (fun q => H 0 (Or.inr ⟨rfl, q⟩))
theorem dd_nd2 {post : Int32 → St2 → Prop} {V W C : Nat → Nat} {x y : Nat} (hV : ∀ d, d < 2 → V d < 64 ∧ a1 d = nI (V d)) (hW : ∀ d, d < 2 → W d < 64 ∧ a2 d = nI (W d)) (h3 : ∀ d, d < 2 → a3 d = 0) (h5 : ∀ j, j < 64 → C j < 64 ∧ a5 j = nI (C j)) (hx : x < 64) (hy : y < 64)
    (H : ∀ (r m n : Int32) (b4 : Nat → Int32), (¬ dd_sb y (C x) → r = -3) → (dd_sb y (C x) → ∃ b, dd_bs V W x y 4 b ∧ r = nI b) → post r (2, m, n, 1, ft, fk, fp, fr, a1, a2, a3, b4, a5, a6, a7, a8, a9, a10, a11, a12, a13, a14)) :
    wpX_needs post (2, fm, fb, 1, ft, fk, fp, fr, a1, a2, a3, a4, a5, a6, a7, a8, a9, a10, a11, a12, a13, a14) (nI x) (nI y) :=
  dd_nd hV hW h3 h5 hx hy (fun q => H (-3) fm fb a4 (fun _ => rfl) (fun g => absurd g q)) (fun q b m n b4 hb => H (nI b) m n b4 (fun g => absurd q g) (fun _ => ⟨b, hb, rfl⟩))
theorem dd_pr2 {post : Int32 → St2 → Prop} {V W P : Nat → Nat} {p : Nat} {OK : Nat → Prop} (hV : ∀ d, d < 2 → V d < 64 ∧ a1 d = nI (V d)) (hW : ∀ d, d < 2 → W d < 64 ∧ a2 d = nI (W d)) (h3 : ∀ d, d < 2 → a3 d = 0) (hp : p ≤ 4) (h9 : ∀ k, k < p → P k < 64 ∧ a9 k = nI (P k))
    (hOK : ∀ d o, d < 2 → (p = 0 → o = V d) → (∀ e, e < p → dd_gd V W P 3 (V d) e → dd_sb (W e) o) → (dd_sb (W d) o ↔ OK d))
    (H : ∀ (r n : Int32) (bl : Nat → Int32), (((OK 0 ∧ OK 1) ∧ r = 1) ∨ (¬ (OK 0 ∧ OK 1) ∧ r = 0)) → post r (2, nI 3, n, fs, ft, fk, nI p, fr, a1, a2, a3, bl, a5, a6, a7, a8, a9, a10, a11, a12, a13, a14)) :
    wpX_preserves post (2, fm, fb, fs, ft, fk, nI p, fr, a1, a2, a3, a4, a5, a6, a7, a8, a9, a10, a11, a12, a13, a14) :=
  dd_pr hV hW h3 hp h9 hOK (fun q n bl => H 1 n bl (Or.inl ⟨⟨q 0 (by omega), q 1 (by omega)⟩, rfl⟩)) (fun q n bl => H 0 n bl (Or.inr ⟨fun g => q (fun d hd => by
    rcases d with _ | _ | d
    · exact g.1
    · exact g.2
    · omega), rfl⟩))
theorem dd_ls2 {post : Int32 → St2 → Prop} {P : Nat} (h3 : ∀ d, d < 2 → a3 d = 0) (hP : P < 64) (h9 : a9 0 = nI P)
    (H : ∀ (r : Int32) (b10 : Nat → Int32), ((P = 63 ∧ r = 1) ∨ (P ≠ 63 ∧ r = 0)) → post r (2, fm, fb, fs, ft, fk, nI 1, fr, a1, a2, a3, a4, a5, a6, a7, a8, a9, b10, a11, a12, a13, a14)) :
    wpX_lossless post (2, fm, fb, fs, ft, fk, nI 1, fr, a1, a2, a3, a4, a5, a6, a7, a8, a9, a10, a11, a12, a13, a14) :=
  dd_ls h3 hP h9 (fun q b => H 1 b (Or.inl ⟨q, rfl⟩)) (fun q b => H 0 b (Or.inr ⟨q, rfl⟩))
theorem dd_pa2 {post : Int32 → St2 → Prop} {p x : Nat} {X : Int32} (hX : X = nI x) (hp : p < 4) (hx : x < 64) (H : post (nI (p + 1)) (fc, fm, fb, fs, ft, fk, nI (p + 1), fr, a1, a2, a3, a4, a5, a6, a7, a8, upd a9 p (nI x), a10, a11, a12, a13, a14)) : wpX_part post (fc, fm, fb, fs, ft, fk, nI p, fr, a1, a2, a3, a4, a5, a6, a7, a8, a9, a10, a11, a12, a13, a14) X := by
  subst hX
  exact dd_pa hp hx H
end
def dd_2f (a c : Nat) : Nat → Nat := fun d => if d = 0 then a else c
theorem dd_2fA {f : Nat → Int32} {a c : Nat} (ha : a < 64) (hc : c < 64) : ∀ d, d < 2 → dd_2f a c d < 64 ∧ upd (upd f 0 (nI a)) 1 (nI c) d = nI (dd_2f a c d) := by
  intro d hd
  rcases d with _ | _ | d
  · exact ⟨ha, rfl⟩
  · exact ⟨hc, rfl⟩
  · omega
theorem dd_law (x y z : Int32) : wpL_lawOf (fun r _ => r = 1) 402 6432 () x y z := by
  obtain ⟨a, ha, ea⟩ := pk_andE x (m := 63) 6 (by decide)
  obtain ⟨b, hb, eb⟩ := pk_andE (x >>> ((6 : Int32) &&& 31)) (m := 63) 6 (by decide)
  obtain ⟨c, hc, ec⟩ := pk_andE y (m := 63) 6 (by decide)
  obtain ⟨d, hd, ed⟩ := pk_andE (y >>> ((6 : Int32) &&& 31)) (m := 63) 6 (by decide)
  obtain ⟨s, hs, es⟩ := pk_andE z (m := 63) 6 (by decide)
  have ha : a < 64 := ha
  have hb : b < 64 := hb
  have hc : c < 64 := hc
  have hd : d < 64 := hd
  have hs : s < 64 := hs
  refine ⟨by omega, by omega, 14, 775, by omega, by omega, ?_⟩
  refine ⟨by omega, by omega, by omega, by omega, by omega, by omega, by omega, by omega, by omega, by omega, by omega, by omega, by omega, by omega, by omega, by omega, by omega, by omega, by omega, by omega, by omega, by omega, by omega, by omega, by omega, by omega, by omega, by omega, ?_⟩
  refine nm_r ea (nm_r eb (nm_r ec (nm_r ed ?_)))
  refine dd_gv (k := 0) (by omega) ha hb (fun _ => ?_)
  refine dd_gv (k := 1) (by omega) hc hd (fun _ => ?_)
  refine nm_r es ?_
  have h3 : ∀ d, d < 2 → upd (upd (fun _ => (0 : Int32)) 0 0) 1 0 d = 0 := by
    intro d hd
    rcases d with _ | _ | d
    · rfl
    · rfl
    · omega
  have hV := dd_2fA (f := fun _ => (0 : Int32)) ha hc
  have hW := dd_2fA (f := fun _ => (0 : Int32)) hb hd
  refine dd_clo hV hW h3 hs (fun n t k b4 b5 b6 b7 b8 C hC h5 => ?_)
  have hC5 : ∀ j, j < 64 → C j < 64 ∧ b5 j = nI (C j) := fun j hj => ⟨(hC j hj).1, h5 j hj⟩
  refine dd_fo2 hC5 hs hd (fun r10 e10 => ?_)
  refine dd_nd2 hV hW h3 hC5 hs hd (fun r11 m1 n1 c4 z11 n11 => ?_)
  refine dd_pr2 (p := 0) (P := fun _ => 0) (OK := fun i => dd_sb (dd_2f b d i) (dd_2f a c i)) hV hW h3 (by omega) (fun k hk => absurd hk (by omega)) (fun i o hi ho _ => by rw [ho rfl]) (fun r12 n2 d4 e12 => ?_)
  refine dd_pa2 (p := 0) (dd_or a b) (by omega) (dd_orL ha hb) ?_
  refine dd_ls2 (P := a ||| b) h3 (dd_orL ha hb) pk_us (fun r13 b10 e13 => ?_)
  refine dd_pa2 (p := 1) (dd_or c d) (by omega) (dd_orL hc hd) ?_
  refine dd_pr2 (p := 2) (P := dd_2f (a ||| b) (c ||| d)) (OK := fun _ => True) hV hW h3 (by omega) (dd_2fA (dd_orL ha hb) (dd_orL hc hd)) (fun i o hi _ ho => ⟨fun _ => trivial, fun _ => ho i hi ⟨hi, ?_, dd_sbR _, ?_, ?_⟩⟩) (fun r14 n3 e4 e14 => ?_)
  · rcases i with _ | _ | i
    · decide
    · decide
    · omega
  · rcases i with _ | _ | i
    · exact dd_orSl a b
    · exact dd_orSl c d
    · omega
  · rcases i with _ | _ | i
    · exact dd_orSr a b
    · exact dd_orSr c d
    · omega
  · have e14' : r14 = 1 := by
      rcases e14 with ⟨_, g⟩ | ⟨g, _⟩
      · exact g
      · exact absurd ⟨trivial, trivial⟩ g
    have T : ∀ F1, dd_sp1 a b s F1 → wL_lawOf_150 (fun r _ => r = 1) 402 6432 (nI a) (nI b) (nI c) (nI d) (nI s) (nI (C s)) r10 r11 r12 r13 r14 (nI F1) (1 + 14) (22 + 775) := fun F1 h1 =>
      dd_T150 (V := dd_2f a c) (W := dd_2f b d) (fun i hi => (hV i hi).1) (fun i hi => (hW i hi).1) hs (hC s hs) h1 e10 z11 n11 e12 e13 e14' rfl
    refine ek_if (dd_win ha hs) (fun q => ?_) (fun q => T s (Or.inr ⟨q, rfl⟩))
    rw [dd_or]
    exact T _ (Or.inl ⟨q, rfl⟩)
theorem dd_cell {post : Int32 → Prop} {L : Nat} {xs : Nat → Int32} (k : Nat) (hL : L ≤ 3) (hk : k < 3) (H : ∀ x, post x) : wpL_cellAt post L xs () (nI k) :=
  pk_le L k (fun _ => H 0) (fun z => ⟨pk_in k L z, H _⟩)
theorem i_vc (xs : Nat → Int32) (L : Nat) (hL : L ≤ 3) : wpL_law (fun r => r = 1) L xs := by
  unfold wpL_law
  refine dd_cell 0 hL (by omega) (fun x => ?_)
  refine dd_cell 1 hL (by omega) (fun y => ?_)
  refine dd_cell 2 hL (by omega) (fun z => ?_)
  exact ⟨402, 6432, by omega, by omega, dd_law x y z⟩
end
